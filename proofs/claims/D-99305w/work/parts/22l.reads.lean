set_option maxRecDepth 100000
theorem cd_X7_init : yX7_init.cls ≠ "java/lang/invoke/MethodHandle" ∧ yX7_init.cls ≠ "java/lang/invoke/VarHandle" ∧ (parseMethodDescriptor yX7_init.desc).map (fun d => d.parameters.length) = some 2 := by decide +kernel
set_option maxHeartbeats 4000000 in
theorem met_X7_init (l : Launch) (D : va_G) (kk : Nat → Nat) (dE : Nat → Nat) (A : Nat → Prop) (h : hG) (rd tp n : Nat) (T : Nat → Int32) (hn : n ≤ 700) (hE0 : ∃ fE : Nat → Option Nat, h (dE 0) = some (.inl (kk 5, 0, .inr (.inr (.inr (.inr fE)))))) (g_rd : h rd = some (.inr (7, [.null, .int 0, .null, .int 0, .int 0, .int 0, .int 0]))) (g_tp : h tp = some (.inl (kk 2, 700, .inl T))) : Met l yX7_init (ws_ yX7_init cX7_init 3 none) ({ frames := 5, cells := 8, slots := 40, locals := 220 } : Room) (hw_Pc D kk dE A h [.ref rd, .ref tp, .int (nI n)]) (hw_Qc D A (fun v h2 => v = none ∧ ∃ rv G, hR kk dE h2 rv G (fun _ => 0) ∧ hnw h rv G (fun _ => 0) ∧ h2 rd = some (rdc tp n rv (tk T n 0)) ∧ hfr h h2 [rd])) (8) (40) A := by
  refine hw_of (RX := RX7) (lo := [some (.ref rd), some (.ref tp), some (.int (nI n))]) (by decide) rfl (Nat.le_of_ble_eq_true rfl) rfl (fun E C hin hr hlk hq => ?_)
  have ne30001 : rd ≠ tp := hne g_rd g_tp (by simp)
  obtain ⟨fE, hE⟩ := hE0
  refine ga_aload_n 1 C.c 0 rfl rfl dX7_init_0 rfl ?_
  refine hh_obj 4 C q620 q157 q158 (Nat.le_of_ble_eq_true rfl) (Nat.le_of_ble_eq_true rfl) (Nat.le_of_ble_eq_true rfl) dX7_init_1 rfl ?_
  refine ga_aload_n 5 C.c 0 rfl rfl dX7_init_4 rfl ?_
  refine hh_new 8 C (ci := 3) (fs := [.null, .null, .null, .null, .int 0, .int 0, .int 0, .int 0]) tyX2 tyX2_ok in_X2 q621 q347 q95 rfl (fun j hj => by rcases (show j = 0 ∨ j = 1 ∨ j = 2 ∨ j = 3 ∨ j = 4 ∨ j = 5 ∨ j = 6 ∨ j = 7 by omega) with rfl | rfl | rfl | rfl | rfl | rfl | rfl | rfl <;> rfl) (Nat.le_of_ble_eq_true rfl) (Nat.le_of_ble_eq_true rfl) dX7_init_5 rfl (fun o30002 h30003 n30005 a30006 e30004 => ?_)
  have k30007 := hu_fr0 e30004 n30005
  have g30008 := hu_at e30004
  clear e30004
  have ne30009 : rd ≠ o30002 := hn_ne g_rd n30005
  have ne30010 : tp ≠ o30002 := hn_ne g_tp n30005
  have ne30011 : (dE 0) ≠ o30002 := hn_ne hE n30005
  have g30012 := k30007 _ _ List.not_mem_nil g_rd
  have g30013 := k30007 _ _ List.not_mem_nil g_tp
  have g30014 := k30007 _ _ List.not_mem_nil hE
  refine ga_dup 9 C.c rfl dX7_init_8 rfl ?_
  refine hh_callIN 12 C (as := []) (met_X2_init (eL E) D kk dE A _ o30002 g30008) q622 q349 q95 q350 rfl cd_X2_init rfl (Nat.le_of_ble_eq_true rfl) (Nat.le_of_ble_eq_true rfl) (Nat.le_of_ble_eq_true rfl) (Nat.le_of_ble_eq_true rfl) (Nat.le_of_ble_eq_true rfl) dX7_init_9 rfl (fun v30016 h30015 p30017 => ?_)
  obtain ⟨rfl, l0, l1, l2, l3, d0, d1, d2, yl0, yl1, yl2, yl3, yd0, yd1, yd2, p01, p02, p03, p12, p13, p23, r01, r02, r12, gb, gl0, gl1, gl2, gl3, gd0, gd1, gd2, kb⟩ := p30017
  have ne30018 : rd ≠ l0 := hn_ne g30012 yl0
  have ne30019 : tp ≠ l0 := hn_ne g30013 yl0
  have ne30020 : (dE 0) ≠ l0 := hn_ne g30014 yl0
  have ne30021 : o30002 ≠ l0 := hn_ne g30008 yl0
  have ne30022 : rd ≠ l1 := hn_ne g30012 yl1
  have ne30023 : tp ≠ l1 := hn_ne g30013 yl1
  have ne30024 : (dE 0) ≠ l1 := hn_ne g30014 yl1
  have ne30025 : o30002 ≠ l1 := hn_ne g30008 yl1
  have ne30026 : rd ≠ l2 := hn_ne g30012 yl2
  have ne30027 : tp ≠ l2 := hn_ne g30013 yl2
  have ne30028 : (dE 0) ≠ l2 := hn_ne g30014 yl2
  have ne30029 : o30002 ≠ l2 := hn_ne g30008 yl2
  have ne30030 : rd ≠ l3 := hn_ne g30012 yl3
  have ne30031 : tp ≠ l3 := hn_ne g30013 yl3
  have ne30032 : (dE 0) ≠ l3 := hn_ne g30014 yl3
  have ne30033 : o30002 ≠ l3 := hn_ne g30008 yl3
  have ne30034 : rd ≠ d0 := hn_ne g30012 yd0
  have ne30035 : tp ≠ d0 := hn_ne g30013 yd0
  have ne30036 : (dE 0) ≠ d0 := hn_ne g30014 yd0
  have ne30037 : o30002 ≠ d0 := hn_ne g30008 yd0
  have ne30038 : rd ≠ d1 := hn_ne g30012 yd1
  have ne30039 : tp ≠ d1 := hn_ne g30013 yd1
  have ne30040 : (dE 0) ≠ d1 := hn_ne g30014 yd1
  have ne30041 : o30002 ≠ d1 := hn_ne g30008 yd1
  have ne30042 : rd ≠ d2 := hn_ne g30012 yd2
  have ne30043 : tp ≠ d2 := hn_ne g30013 yd2
  have ne30044 : (dE 0) ≠ d2 := hn_ne g30014 yd2
  have ne30045 : o30002 ≠ d2 := hn_ne g30008 yd2
  have g30046 := kb _ _ (nm1 ne30009) g30012
  have g30047 := kb _ _ (nm1 ne30010) g30013
  have g30048 := kb _ _ (nm1 ne30011) g30014
  refine hh_putF 15 2 C hin (ref := "QuotedRiver$Reader") (fs2 := [.null, .int 0, .ref o30002, .int 0, .int 0, .int 0, .int 0]) tyX7_ok nmX7 in_X7 g30046 rfl (by decide) q638 (fun _ h9 => h9) rfl rfl (tyX7_ok 2 (by decide)) rfl rfl (Nat.le_of_ble_eq_true rfl) rfl dX7_init_12 rfl (fun h30049 e30050 => ?_)
  have k30051 := hu_fr e30050
  have g30052 := hu_at e30050
  clear e30050
  have g30053 := k30051 _ _ (nm1 (Ne.symm ne30001)) g30047
  have g30054 := k30051 _ _ (nm1 (hne g30048 g30046 (by simp))) g30048
  have g30055 := k30051 _ _ (nm1 (Ne.symm ne30009)) gb
  have g30056 := k30051 _ _ (nm1 (Ne.symm ne30018)) gl0
  have g30057 := k30051 _ _ (nm1 (Ne.symm ne30022)) gl1
  have g30058 := k30051 _ _ (nm1 (Ne.symm ne30026)) gl2
  have g30059 := k30051 _ _ (nm1 (Ne.symm ne30030)) gl3
  have g30060 := k30051 _ _ (nm1 (Ne.symm ne30034)) gd0
  have g30061 := k30051 _ _ (nm1 (Ne.symm ne30038)) gd1
  have g30062 := k30051 _ _ (nm1 (Ne.symm ne30042)) gd2
  refine ga_aload_n 16 C.c 0 rfl rfl dX7_init_15 rfl ?_
  refine ga_aload_n 17 C.c 1 rfl rfl dX7_init_16 rfl ?_
  refine hh_putF 20 0 C hin (ref := "QuotedRiver$Reader") (fs2 := [.ref tp, .int 0, .ref o30002, .int 0, .int 0, .int 0, .int 0]) tyX7_ok nmX7 in_X7 g30052 rfl (by decide) q636 (fun _ h9 => h9) rfl rfl (tyX7_ok 0 (by decide)) rfl rfl (Nat.le_of_ble_eq_true rfl) rfl dX7_init_17 rfl (fun h30063 e30064 => ?_)
  have k30065 := hu_fr e30064
  have g30066 := hu_at e30064
  clear e30064
  have g30067 := k30065 _ _ (nm1 (Ne.symm ne30001)) g30053
  have g30068 := k30065 _ _ (nm1 (hne g30054 g30052 (by simp))) g30054
  have g30069 := k30065 _ _ (nm1 (Ne.symm ne30009)) g30055
  have g30070 := k30065 _ _ (nm1 (Ne.symm ne30018)) g30056
  have g30071 := k30065 _ _ (nm1 (Ne.symm ne30022)) g30057
  have g30072 := k30065 _ _ (nm1 (Ne.symm ne30026)) g30058
  have g30073 := k30065 _ _ (nm1 (Ne.symm ne30030)) g30059
  have g30074 := k30065 _ _ (nm1 (Ne.symm ne30034)) g30060
  have g30075 := k30065 _ _ (nm1 (Ne.symm ne30038)) g30061
  have g30076 := k30065 _ _ (nm1 (Ne.symm ne30042)) g30062
  refine ga_aload_n 21 C.c 0 rfl rfl dX7_init_20 rfl ?_
  refine ga_iload_n 22 C.c 2 rfl rfl dX7_init_21 rfl ?_
  refine hh_putF 25 1 C hin (ref := "QuotedRiver$Reader") (fs2 := [.ref tp, .int (nI n), .ref o30002, .int 0, .int 0, .int 0, .int 0]) tyX7_ok nmX7 in_X7 g30066 rfl (by decide) q637 (fun _ h9 => h9) rfl rfl (tyX7_ok 1 (by decide)) rfl rfl (Nat.le_of_ble_eq_true rfl) rfl dX7_init_22 rfl (fun h30077 e30078 => ?_)
  have k30079 := hu_fr e30078
  have g30080 := hu_at e30078
  clear e30078
  have g30081 := k30079 _ _ (nm1 (Ne.symm ne30001)) g30067
  have g30082 := k30079 _ _ (nm1 (hne g30068 g30066 (by simp))) g30068
  have g30083 := k30079 _ _ (nm1 (Ne.symm ne30009)) g30069
  have g30084 := k30079 _ _ (nm1 (Ne.symm ne30018)) g30070
  have g30085 := k30079 _ _ (nm1 (Ne.symm ne30022)) g30071
  have g30086 := k30079 _ _ (nm1 (Ne.symm ne30026)) g30072
  have g30087 := k30079 _ _ (nm1 (Ne.symm ne30030)) g30073
  have g30088 := k30079 _ _ (nm1 (Ne.symm ne30034)) g30074
  have g30089 := k30079 _ _ (nm1 (Ne.symm ne30038)) g30075
  have g30090 := k30079 _ _ (nm1 (Ne.symm ne30042)) g30076
  refine ga_aload_n 26 C.c 0 rfl rfl dX7_init_25 rfl ?_
  have g9 : h30077 rd = some (.inr (7, [.ref tp, .int (nI n), .ref o30002, .int (nI (0 : Nat)), .int (nI (0 : Nat)), .int 0, .int 0])) := g30080
  refine hh_callV 29 C (as := []) (met_X7_next (eL E) D kk dE A _ rd tp o30002 n T ((0, 0, 0, 0) : sT) ⟨Nat.zero_le _, Nat.le_refl _⟩ hn g9 g30081) g30080 (T := TX7) rfl (lw_V q623 q625 qs5 q103 q626) cd_X7_next rfl (Nat.le_of_ble_eq_true rfl) (Nat.le_of_ble_eq_true rfl) (Nat.le_of_ble_eq_true rfl) (Nat.le_of_ble_eq_true rfl) (Nat.le_of_ble_eq_true rfl) dX7_init_26 rfl (fun v30092 h30091 p30093 => ?_)
  obtain ⟨rfl, gn, kn⟩ := p30093
  have g30094 := kn _ _ (nm1 (Ne.symm ne30001)) g30081
  have g30095 := kn _ _ (nm1 (hne g30082 g30080 (by simp))) g30082
  have g30096 := kn _ _ (nm1 (Ne.symm ne30009)) g30083
  have g30097 := kn _ _ (nm1 (Ne.symm ne30018)) g30084
  have g30098 := kn _ _ (nm1 (Ne.symm ne30022)) g30085
  have g30099 := kn _ _ (nm1 (Ne.symm ne30026)) g30086
  have g30100 := kn _ _ (nm1 (Ne.symm ne30030)) g30087
  have g30101 := kn _ _ (nm1 (Ne.symm ne30034)) g30088
  have g30102 := kn _ _ (nm1 (Ne.symm ne30038)) g30089
  have g30103 := kn _ _ (nm1 (Ne.symm ne30042)) g30090
  have nd30104 : h o30002 = none := by
    cases c9 : h o30002 with
    | none => rfl
    | some e9 =>
      rw [n30005] at c9
      cases c9
  have nd30105 : h l0 = none := by
    cases c9 : h l0 with
    | none => rfl
    | some e9 =>
      have b30106 := k30007 l0 e9 List.not_mem_nil c9
      rw [yl0] at b30106
      cases b30106
  have nd30107 : h l1 = none := by
    cases c9 : h l1 with
    | none => rfl
    | some e9 =>
      have b30108 := k30007 l1 e9 List.not_mem_nil c9
      rw [yl1] at b30108
      cases b30108
  have nd30109 : h l2 = none := by
    cases c9 : h l2 with
    | none => rfl
    | some e9 =>
      have b30110 := k30007 l2 e9 List.not_mem_nil c9
      rw [yl2] at b30110
      cases b30110
  have nd30111 : h l3 = none := by
    cases c9 : h l3 with
    | none => rfl
    | some e9 =>
      have b30112 := k30007 l3 e9 List.not_mem_nil c9
      rw [yl3] at b30112
      cases b30112
  have nd30113 : h d0 = none := by
    cases c9 : h d0 with
    | none => rfl
    | some e9 =>
      have b30114 := k30007 d0 e9 List.not_mem_nil c9
      rw [yd0] at b30114
      cases b30114
  have nd30115 : h d1 = none := by
    cases c9 : h d1 with
    | none => rfl
    | some e9 =>
      have b30116 := k30007 d1 e9 List.not_mem_nil c9
      rw [yd1] at b30116
      cases b30116
  have nd30117 : h d2 = none := by
    cases c9 : h d2 with
    | none => rfl
    | some e9 =>
      have b30118 := k30007 d2 e9 List.not_mem_nil c9
      rw [yd2] at b30118
      cases b30118
  have HR := hR_first (kk := kk) (dE := dE) (w := fun _ => 0) (fun _ _ => rfl) g30095 g30096 g30097 g30098 g30099 g30100 g30101 g30102 g30103
    p01 p02 p03 p12 p13 p23 r01 r02 r12 (Ne.symm ne30036) (Ne.symm ne30040) (Ne.symm ne30044)
  have kF30119 : hfr h h30091 [rd] := by
    intro b e nb hb
    have m_o30002 : b ≠ o30002 := hn_ne hb n30005
    have b30120 := k30007 b e List.not_mem_nil hb
    have m_l0 : b ≠ l0 := hn_ne b30120 yl0
    have m_l1 : b ≠ l1 := hn_ne b30120 yl1
    have m_l2 : b ≠ l2 := hn_ne b30120 yl2
    have m_l3 : b ≠ l3 := hn_ne b30120 yl3
    have m_d0 : b ≠ d0 := hn_ne b30120 yd0
    have m_d1 : b ≠ d1 := hn_ne b30120 yd1
    have m_d2 : b ≠ d2 := hn_ne b30120 yd2
    have b30121 := kb b e (nm1 m_o30002) b30120
    have b30122 := k30051 b e (nm1 (nx nb (by simp))) b30121
    have b30123 := k30065 b e (nm1 (nx nb (by simp))) b30122
    have b30124 := k30079 b e (nm1 (nx nb (by simp))) b30123
    have b30125 := kn b e (nm1 (nx nb (by simp))) b30124
    exact b30125
  exact hw_vret C hr hlk hq (Nat.le_of_ble_eq_true rfl) (Nat.le_of_ble_eq_true rfl) ⟨rfl, o30002, _, HR, hnw_first nd30104 nd30105 nd30107 nd30109 nd30111 nd30113 nd30115 nd30117, gn, kF30119⟩ dX7_init_29
theorem cd_X7_reads : yX7_reads.cls = RX7 ∧ yX7_reads.cls ≠ "java/lang/invoke/MethodHandle" ∧ yX7_reads.cls ≠ "java/lang/invoke/VarHandle" ∧ (parseMethodDescriptor yX7_reads.desc).map (fun d => d.parameters.length) = some 0 := by decide +kernel
set_option maxHeartbeats 4000000 in
theorem met_X7_reads (l : Launch) (D : va_G) (kk : Nat → Nat) (dE : Nat → Nat) (A : Nat → Prop) (h : hG) (rd tp rv n : Nat) (T : Nat → Int32) (s : sT) (hs : s.1 ≤ n ∧ s.2.1 ≤ s.1) (hn : n ≤ 700) (k : Nat) (w0 : Nat → Int32) (G0 : XG) (hB : hG) (r : sF ⊕ (Nat → Int32)) (hk : sp_reads T n k s w0 = some r) (HR0 : hR kk dE h rv G0 w0) (N0 : hnw hB rv G0 w0) (kB0 : hfr hB h []) (zr : hB rd = none) (h30 : xr_n w0 3 = 0) (g_rd : h rd = some (.inr (7, [.ref tp, .int (nI n), .ref rv, .int (nI s.1), .int (nI s.2.1), .int s.2.2.1, .int s.2.2.2]))) (g_tp : h tp = some (.inl (kk 2, 700, .inl T))) : vx_Met l yX7_reads (ws_ yX7_reads cX7_reads 3 (some (.object "QuotedRiver$Rivers"))) ({ frames := 13, cells := 19 * k + 4, slots := 130 * k + 16, locals := 520 } : Room) (hw_Pc D kk dE A h [.ref rd]) (hw_Qc D A (fun v h2 => ∃ w2 G2, r = .inr w2 ∧ v = some (.ref rv) ∧ hR kk dE h2 rv G2 (sp_fix w2 (xr_n w2 0)) ∧ hnw hB rv G2 (sp_fix w2 (xr_n w2 0)) ∧ hfr hB h2 [])) (hx_X D A (fun q h2 => ∃ f, r = .inl f ∧ FT h2 q f ∧ hfr hB h2 [])) (19 * k + 4) (130 * k + 16) A := by
  refine hx_of (RX := RX7) (lo := [some (.ref rd), none, none]) (by decide) rfl (Nat.le_of_ble_eq_true rfl) rfl (fun E C hnx hr hlk hq => ?_)
  have ne30126 : rd ≠ tp := hne g_rd g_tp (by simp)
  have fin : ∀ (ka na : Nat) (hx : hG) (s1 : sT) (w1 : Nat → Int32) (G1 : XG), ka + 4 ≤ 19 * k + 4 → na + 16 ≤ 130 * k + 16 → r = .inr w1 → (s1.1 ≤ n ∧ s1.2.1 ≤ s1.1) → hx rd = some (.inr (7, [.ref tp, .int (nI n), .ref rv, .int (nI s1.1), .int (nI s1.2.1), .int s1.2.2.1, .int s1.2.2.2])) → hx tp = some (.inl (kk 2, 700, .inl T)) → hR kk dE hx rv G1 w1 → hnw hB rv G1 w1 → hfr hB hx [] → xr_n w1 3 = 0 → ga_W E 3 (hw_I E D A hx) ka na 62 [some (.ref rd), none, none] [] := by
    intro ka na hx s1 w1 G1 hka hna er hs1 gr gt HR N kB h3
    have hn0 := HR.1.n 0 (by decide)
    have hn1 := HR.1.n 1 (by decide)
    have hn2 := HR.1.n 2 (by decide)
    have hn3 := HR.1.n 3 (by decide)
    obtain ⟨n0, en0⟩ : ∃ n, n = xr_n w1 0 := ⟨_, rfl⟩
    rw [← en0] at hn0
    obtain ⟨n1, en1⟩ : ∃ n, n = xr_n w1 1 := ⟨_, rfl⟩
    rw [← en1] at hn1
    obtain ⟨n2, en2⟩ : ∃ n, n = xr_n w1 2 := ⟨_, rfl⟩
    rw [← en2] at hn2
    obtain ⟨n3, en3⟩ : ∃ n, n = xr_n w1 3 := ⟨_, rfl⟩
    rw [← en3] at hn3
    have g_o := HR.1.o
    have g_l0 : hx (G1.1 7 0) = some (.inr (13, [.int (G1.2.2.1 0), .ref (G1.1 8 0), .int (nI n0)])) := by
      rw [HR.1.l 0 (by decide), hn0.1]
      rfl
    have g_d0 := HR.1.d 0 (by decide)
    have g_l1 : hx (G1.1 7 1) = some (.inr (13, [.int (G1.2.2.1 1), .ref (G1.1 8 1), .int (nI n1)])) := by
      rw [HR.1.l 1 (by decide), hn1.1]
      rfl
    have g_d1 := HR.1.d 1 (by decide)
    have g_l2 : hx (G1.1 7 2) = some (.inr (13, [.int (G1.2.2.1 2), .ref (G1.1 8 2), .int (nI n2)])) := by
      rw [HR.1.l 2 (by decide), hn2.1]
      rfl
    have g_d2 := HR.1.d 2 (by decide)
    have g_l3 : hx (G1.1 7 3) = some (.inr (13, [.int (G1.2.2.1 3), .ref (G1.1 8 3), .int (nI n3)])) := by
      rw [HR.1.l 3 (by decide), hn3.1]
      rfl
    have g_d3 := HR.1.d 3 (by decide)
    refine ga_aload_n 63 C.c 0 rfl rfl dX7_reads_62 rfl ?_
    refine ga_get1 66 2 C.c C.ts (own := RX7) (ref := "QuotedRiver$Reader") C.ow C.k (hw_one gr) in_X7 rfl (by decide) q638 (fun _ h9 => h9) rfl dX7_reads_63 rfl ?_
    refine ga_get1N 69 0 C.c C.ts (own := RX7) (ref := "QuotedRiver$Rivers") C.ow C.k (hw_one g_o) in_X2 rfl (by decide) (C.n.use q389 rfl) (fun _ h9 => h9) rfl dX7_reads_66 rfl ?_
    refine hh_callF 74 C (as := []) (met_J2_iterator (eL E) D kk dE A _ (G1.1 7 0) (G1.1 8 0) (G1.2.2.1 0) (nI n0) g_l0) g_l0 (T := TJ2) rfl (C.f _ (List.mem_of_getElem? (i := 4) rfl)) (lw_F q947 q950 q952 q98 q954) cdL_iterator rfl (Nat.le_of_ble_eq_true rfl) (Nat.le_of_ble_eq_true rfl) (by omega) (by omega) (Nat.le_of_ble_eq_true rfl) dX7_reads_69 rfl (fun v30128 h30127 p30129 => ?_)
    obtain ⟨q, nq, rfl, gq, kq⟩ := p30129
    have ne30130 : rd ≠ q := hn_ne gr nq
    have ne30131 : tp ≠ q := hn_ne gt nq
    have ne30132 : rv ≠ q := hn_ne g_o nq
    have ne30133 : (G1.1 7 0) ≠ q := hn_ne g_l0 nq
    have ne30134 : (G1.1 8 0) ≠ q := hn_ne g_d0 nq
    have ne30135 : (G1.1 7 1) ≠ q := hn_ne g_l1 nq
    have ne30136 : (G1.1 8 1) ≠ q := hn_ne g_d1 nq
    have ne30137 : (G1.1 7 2) ≠ q := hn_ne g_l2 nq
    have ne30138 : (G1.1 8 2) ≠ q := hn_ne g_d2 nq
    have ne30139 : (G1.1 7 3) ≠ q := hn_ne g_l3 nq
    have ne30140 : (G1.1 8 3) ≠ q := hn_ne g_d3 nq
    have g30141 := kq _ _ List.not_mem_nil gr
    have g30142 := kq _ _ List.not_mem_nil gt
    have g30143 := kq _ _ List.not_mem_nil g_o
    have g30144 := kq _ _ List.not_mem_nil g_l0
    have g30145 := kq _ _ List.not_mem_nil g_d0
    have g30146 := kq _ _ List.not_mem_nil g_l1
    have g30147 := kq _ _ List.not_mem_nil g_d1
    have g30148 := kq _ _ List.not_mem_nil g_l2
    have g30149 := kq _ _ List.not_mem_nil g_d2
    have g30150 := kq _ _ List.not_mem_nil g_l3
    have g30151 := kq _ _ List.not_mem_nil g_d3
    refine ga_astore_n 75 C.c 1 rfl (Nat.le_of_ble_eq_true rfl) rfl dX7_reads_74 rfl ?_
    have nd30152 : hB q = none := by
      cases c9 : hB q with
      | none => rfl
      | some e9 =>
        have b30153 := kB q e9 List.not_mem_nil c9
        rw [nq] at b30153
        cases b30153
    have kF30154 : hfr hB h30127 [] := by
      intro b e nb hb
      have m_rd : b ≠ rd := hn_ne hb zr
      have m_rv : b ≠ rv := hn_ne hb N.o
      have b30155 := kB b e List.not_mem_nil hb
      have m_q : b ≠ q := hn_ne b30155 nq
      have b30156 := kq b e List.not_mem_nil b30155
      exact b30156
    have hb10 := (xw_bn HR).1
    rw [← en0] at hb10
    have loop : ∀ (j i : Nat) (hy : hG) (lr : Int32), i + j = n0 → hy q = some (.inr (14, [.int (nI i), .int lr, .int (G1.2.2.1 0), .ref (G1.1 7 0)])) → hy rd = some (.inr (7, [.ref tp, .int (nI n), .ref rv, .int (nI s1.1), .int (nI s1.2.1), .int s1.2.2.1, .int s1.2.2.2])) → hR kk dE hy rv G1 (sp_fix w1 i) → hfr hB hy [] → ga_W E 3 (hw_I E D A hy) (ka + 1) (na + 4) 75 [some (.ref rd), some (.ref q), none] [] := by
      intro j
      induction j with
      | zero =>
        intro i hy lr hi Gq Gr HRi ky
        have an0 := HRi.1.n 0 (by decide)
        rw [sp_fix_n (show 0 < 4 by decide), ← en0] at an0
        have ag_o := HRi.1.o
        have ag_l : hy (G1.1 7 0) = some (.inr (13, [.int (G1.2.2.1 0), .ref (G1.1 8 0), .int (nI n0)])) := by
          rw [HRi.1.l 0 (by decide), an0.1]
          rfl
        have ag_d := HRi.1.d 0 (by decide)
        refine ga_aload_n 76 C.c 1 rfl rfl dX7_reads_75 rfl ?_
        refine hh_callF 81 C (as := []) (met_J13_hasNext (eL E) D kk dE A _ q (G1.1 7 0) (G1.1 8 0) (nI i) lr (G1.2.2.1 0) (G1.2.2.1 0) (nI n0) Gq ag_l) Gq (T := TJ13) rfl (C.f _ (List.mem_of_getElem? (i := 6) rfl)) (lw_F q975 q979 q981 q119 q983) cdL_hasNext rfl (Nat.le_of_ble_eq_true rfl) (Nat.le_of_ble_eq_true rfl) (by omega) (by omega) (Nat.le_of_ble_eq_true rfl) dX7_reads_76 rfl (fun v30158 h30157 p30159 => ?_)
        obtain ⟨rfl, e30160⟩ := p30159
        have e30160 := e30160.symm
        subst e30160
        have ei : i = n0 := by omega
        rw [if_pos (by rw [ei])]
        refine ga_if_eq 121 84 C.c dX7_reads_81 (by decide) rfl (fun c30161 => ?_) (fun c30161 => absurd rfl c30161)
        refine ga_aload_n 122 C.c 0 rfl rfl dX7_reads_121 rfl ?_
        refine ga_get1 125 2 C.c C.ts (own := RX7) (ref := "QuotedRiver$Reader") C.ow C.k (hw_one Gr) in_X7 rfl (by decide) q638 (fun _ h9 => h9) rfl dX7_reads_122 rfl ?_
        exact hx_aret C hr (Or.inl ⟨_, rfl⟩) (Or.inr ⟨_, rfl⟩) hlk hq (by omega) (by omega) ⟨w1, G1, er, rfl, by rw [← en0, ← ei]; exact HRi, N.row (sp_fix_n (by decide)), ky⟩ dX7_reads_125
      | succ j ih =>
        intro i hy lr hi Gq Gr HRi ky
        have an0 := HRi.1.n 0 (by decide)
        rw [sp_fix_n (show 0 < 4 by decide), ← en0] at an0
        have ag_o := HRi.1.o
        have ag_l : hy (G1.1 7 0) = some (.inr (13, [.int (G1.2.2.1 0), .ref (G1.1 8 0), .int (nI n0)])) := by
          rw [HRi.1.l 0 (by decide), an0.1]
          rfl
        have ag_d := HRi.1.d 0 (by decide)
        refine ga_aload_n 76 C.c 1 rfl rfl dX7_reads_75 rfl ?_
        refine hh_callF 81 C (as := []) (met_J13_hasNext (eL E) D kk dE A _ q (G1.1 7 0) (G1.1 8 0) (nI i) lr (G1.2.2.1 0) (G1.2.2.1 0) (nI n0) Gq ag_l) Gq (T := TJ13) rfl (C.f _ (List.mem_of_getElem? (i := 6) rfl)) (lw_F q975 q979 q981 q119 q983) cdL_hasNext rfl (Nat.le_of_ble_eq_true rfl) (Nat.le_of_ble_eq_true rfl) (by omega) (by omega) (Nat.le_of_ble_eq_true rfl) dX7_reads_76 rfl (fun v30163 h30162 p30164 => ?_)
        obtain ⟨rfl, e30165⟩ := p30164
        have e30165 := e30165.symm
        subst e30165
        have hi2 : i < n0 := by omega
        rw [if_neg (fun q => by have := (nI_eq (show i < 2 ^ 31 by omega) (show n0 < 2 ^ 31 by omega)).mp q; omega)]
        refine ga_if_eq 121 84 C.c dX7_reads_81 (by decide) rfl (fun c30166 => absurd c30166 (by decide)) (fun c30166 => ?_)
        refine ga_aload_n 85 C.c 1 rfl rfl dX7_reads_84 rfl ?_
        refine hh_callF 90 C (as := []) (met_J13_next (eL E) D kk dE A _ q (G1.1 7 0) (G1.1 8 0) (G1.2.1 0) (G1.1 0 i) (G1.2.2.2 0) (nI i) lr (G1.2.2.1 0) (nI n0) (nI_lt hi2 (by omega)) (by rw [HR.2.1.c0]; exact nI_lt (show i < 10 by omega) (by decide)) (by rw [HR.2.1.c0]; exact vp_in_nI (by omega) (by decide)) (by rw [nI_clamp (by omega), an0.2.2.2 i hi2]; rfl) Gq ag_l ag_d) Gq (T := TJ13) rfl (C.f _ (List.mem_of_getElem? (i := 7) rfl)) (lw_F q985 q988 q990 q119 q992) cdL_next rfl (Nat.le_of_ble_eq_true rfl) (Nat.le_of_ble_eq_true rfl) (by omega) (by omega) (Nat.le_of_ble_eq_true rfl) dX7_reads_85 rfl (fun v30168 h30167 p30169 => ?_)
        obtain ⟨rfl, gq2, kq2⟩ := p30169
        have gri := HRi.1.r i (by rw [sp_fix_n (show 0 < 4 by decide), ← en0]; exact hi2)
        have g30170 := kq2 _ _ (nm1 (hne Gr Gq (by simp))) Gr
        have g30171 := kq2 _ _ (nm1 (hne ag_o Gq (by simp))) ag_o
        have g30172 := kq2 _ _ (nm1 (hne ag_l Gq (by simp))) ag_l
        have g30173 := kq2 _ _ (nm1 (hne ag_d Gq (by simp))) ag_d
        have g30174 := kq2 _ _ (nm1 (hne gri Gq (by simp))) gri
        refine hh_cast 93 C g30174 (T := TX9) rfl q796 dX7_reads_90 rfl ?_
        refine ga_astore_n 94 C.c 2 rfl (Nat.le_of_ble_eq_true rfl) rfl dX7_reads_93 rfl ?_
        refine ga_aload_n 95 C.c 2 rfl rfl dX7_reads_94 rfl ?_
        refine ga_get1N 98 0 C.c C.ts (own := RX7) (ref := "QuotedRiver$Reach") C.ow C.k (hw_one g30174) in_X9 rfl (by decide) (C.n.use q804 rfl) (fun _ h9 => h9) rfl dX7_reads_95 rfl ?_
        refine ga_aload_n 99 C.c 0 rfl rfl dX7_reads_98 rfl ?_
        refine ga_get1 102 2 C.c C.ts (own := RX7) (ref := "QuotedRiver$Reader") C.ow C.k (hw_one g30170) in_X7 rfl (by decide) q638 (fun _ h9 => h9) rfl dX7_reads_99 rfl ?_
        refine ga_get1N 105 0 C.c C.ts (own := RX7) (ref := "QuotedRiver$Rivers") C.ow C.k (hw_one g30171) in_X2 rfl (by decide) (C.n.use q389 rfl) (fun _ h9 => h9) rfl dX7_reads_102 rfl ?_
        refine hh_size 110 C g30172 q783 (Nat.le_of_ble_eq_true rfl) (Nat.le_of_ble_eq_true rfl) (by omega) (by omega) (Nat.le_of_ble_eq_true rfl) dX7_reads_105 rfl ?_
        have e3 : w1 3 = nI n0 := hn0.1
        have e8 : sp_fix w1 i (8 + 3 * i) = w1 (8 + 3 * i) := sp_fix_lo (by omega)
        refine ga_icmp_lt 118 113 C.c dX7_reads_110 (by decide) rfl (fun c30175 => ?_) (fun c30175 => ?_)
        · refine ga_goto 75 C.c dX7_reads_118 (by decide) ?_
          have kF30176 : hfr hB h30167 [] := by
            intro b e nb hb
            have m_q : b ≠ q := hn_ne hb nd30152
            have m__G1_1_0_i_ : b ≠ (G1.1 0 i) := hn_ne hb (N.r i (by rw [← en0]; exact hi2))
            have b30177 := ky b e List.not_mem_nil hb
            have b30178 := kq2 b e (nm1 m_q) b30177
            exact b30178
          rw [nI_1] at gq2
          have HR2 : hR kk dE h30167 rv G1 (sp_fix w1 (i + 1)) := by
            rw [sp_fix, if_pos (by rw [e3, ← e8]; exact c30175)]; exact HRi.itr (fun b e hb hn => kq2 b e (nm1 (hne hb Gq (hn _))) hb)
          exact ga_W.sub (ih (i + 1) _ (nI i) (by omega) gq2 g30170 HR2 kF30176) (And.intro rfl (And.intro rfl trivial))
        · refine ga_aload_n 114 C.c 2 rfl rfl dX7_reads_113 rfl ?_
          refine ga_iconst 115 C.c (v := (-1)) (by decide) dX7_reads_114 rfl ?_
          refine hh_putN 118 0 C (ref := "QuotedRiver$Reach") (fs2 := [.int (-1), .int (sp_fix w1 i (9 + 3 * i)), .int (sp_fix w1 i (10 + 3 * i))]) tyX9_ok nmX9 in_X9 g30174 rfl (by decide) q804 (fun _ h9 => h9) rfl (tyX9_ok 0 (by decide)) rfl rfl (Nat.le_of_ble_eq_true rfl) rfl dX7_reads_115 rfl (fun h30179 e30180 => ?_)
          have k30181 := hu_fr e30180
          have g30182 := hu_at e30180
          clear e30180
          have g30183 := k30181 _ _ (nm1 (hne gq2 g30174 (by simp))) gq2
          have g30184 := k30181 _ _ (nm1 (hne g30170 g30174 (by simp))) g30170
          have g30185 := k30181 _ _ (nm1 (hne g30171 g30174 (by simp))) g30171
          have g30186 := k30181 _ _ (nm1 (hne g30172 g30174 (by simp))) g30172
          have g30187 := k30181 _ _ (nm1 (hne g30173 g30174 (by simp))) g30173
          refine ga_goto 75 C.c dX7_reads_118 (by decide) ?_
          have kF30188 : hfr hB h30179 [] := by
            intro b e nb hb
            have m_q : b ≠ q := hn_ne hb nd30152
            have m__G1_1_0_i_ : b ≠ (G1.1 0 i) := hn_ne hb (N.r i (by rw [← en0]; exact hi2))
            have b30189 := ky b e List.not_mem_nil hb
            have b30190 := kq2 b e (nm1 m_q) b30189
            have b30191 := k30181 b e (nm1 m__G1_1_0_i_) b30190
            exact b30191
          rw [nI_1] at g30183
          have HR2 : hR kk dE h30179 rv G1 (sp_fix w1 (i + 1)) := by
            rw [sp_fix, if_neg (fun q => c30175 (by rw [e8, ← e3]; exact q))]; exact HRi.to (by rw [sp_fix_n (show 0 < 4 by decide), ← en0]; exact hi2) (fun b e hb n1 hn => k30181 b e (nm1 n1) (kq2 b e (nm1 (hne hb Gq (hn _))) hb)) g30182
          exact ga_W.sub (ih (i + 1) _ (nI i) (by omega) g30183 g30184 HR2 kF30188) (And.intro rfl (And.intro rfl trivial))
    exact ga_W.sub (loop n0 0 _ (-1) (by omega) gq g30141 (HR.itr (fun b e hb hn => kq b e List.not_mem_nil hb)) kF30154) (And.intro rfl (And.intro rfl trivial))
  have loop : ∀ (j : Nat) (ka na : Nat) (hx : hG) (s1 : sT) (w1 : Nat → Int32) (G1 : XG), ka + 19 * j + 4 ≤ 19 * k + 4 → na + 130 * j + 16 ≤ 130 * k + 16 → sp_reads T n j s1 w1 = some r → (s1.1 ≤ n ∧ s1.2.1 ≤ s1.1) → hx rd = some (.inr (7, [.ref tp, .int (nI n), .ref rv, .int (nI s1.1), .int (nI s1.2.1), .int s1.2.2.1, .int s1.2.2.2])) → hx tp = some (.inl (kk 2, 700, .inl T)) → hR kk dE hx rv G1 w1 → hnw hB rv G1 w1 → hfr hB hx [] → xr_n w1 3 = 0 → ga_W E 3 (hw_I E D A hx) ka na 0 [some (.ref rd), none, none] [] := by
    intro j
    induction j with
    | zero =>
      intro ka na hx s1 w1 G1 hka hna hk1 hs1 gr gt HR N kB h3
      cases (show (none : Option (sF ⊕ (Nat → Int32))) = some r from hk1)
    | succ j ih =>
      have tail : ∀ (ka na : Nat) (hx : hG) (s1 : sT) (w1 : Nat → Int32) (G1 : XG), ka + 19 * j + 5 ≤ 19 * k + 4 → na + 130 * j + 24 ≤ 130 * k + 16 → (if s1.2.2.1 = 3 then sp_reads T n j (tk T n s1.1) (upd w1 7 (w1 7 + 1)) else some (.inl (1, s1.2.1))) = some r → (s1.1 ≤ n ∧ s1.2.1 ≤ s1.1) → hx rd = some (.inr (7, [.ref tp, .int (nI n), .ref rv, .int (nI s1.1), .int (nI s1.2.1), .int s1.2.2.1, .int s1.2.2.2])) → hx tp = some (.inl (kk 2, 700, .inl T)) → hR kk dE hx rv G1 w1 → hnw hB rv G1 w1 → hfr hB hx [] → xr_n w1 3 = 0 → ga_W E 3 (hw_I E D A hx) ka na 28 [some (.ref rd), none, none] [] := by
        intro ka na hx s1 w1 G1 hka hna hk1 hs1 gr gt HR N kB h3
        have hn0 := HR.1.n 0 (by decide)
        have hn1 := HR.1.n 1 (by decide)
        have hn2 := HR.1.n 2 (by decide)
        have hn3 := HR.1.n 3 (by decide)
        obtain ⟨n0, en0⟩ : ∃ n, n = xr_n w1 0 := ⟨_, rfl⟩
        rw [← en0] at hn0
        obtain ⟨n1, en1⟩ : ∃ n, n = xr_n w1 1 := ⟨_, rfl⟩
        rw [← en1] at hn1
        obtain ⟨n2, en2⟩ : ∃ n, n = xr_n w1 2 := ⟨_, rfl⟩
        rw [← en2] at hn2
        obtain ⟨n3, en3⟩ : ∃ n, n = xr_n w1 3 := ⟨_, rfl⟩
        rw [← en3] at hn3
        have g_o := HR.1.o
        have g_l0 : hx (G1.1 7 0) = some (.inr (13, [.int (G1.2.2.1 0), .ref (G1.1 8 0), .int (nI n0)])) := by
          rw [HR.1.l 0 (by decide), hn0.1]
          rfl
        have g_d0 := HR.1.d 0 (by decide)
        have g_l1 : hx (G1.1 7 1) = some (.inr (13, [.int (G1.2.2.1 1), .ref (G1.1 8 1), .int (nI n1)])) := by
          rw [HR.1.l 1 (by decide), hn1.1]
          rfl
        have g_d1 := HR.1.d 1 (by decide)
        have g_l2 : hx (G1.1 7 2) = some (.inr (13, [.int (G1.2.2.1 2), .ref (G1.1 8 2), .int (nI n2)])) := by
          rw [HR.1.l 2 (by decide), hn2.1]
          rfl
        have g_d2 := HR.1.d 2 (by decide)
        have g_l3 : hx (G1.1 7 3) = some (.inr (13, [.int (G1.2.2.1 3), .ref (G1.1 8 3), .int (nI n3)])) := by
          rw [HR.1.l 3 (by decide), hn3.1]
          rfl
        have g_d3 := HR.1.d 3 (by decide)
        refine ga_aload_n 29 C.c 0 rfl rfl dX7_reads_28 rfl ?_
        refine ga_get1 32 5 C.c C.ts (own := RX7) (ref := "QuotedRiver$Reader") C.ow C.k (hw_one gr) in_X7 rfl (by decide) q641 (fun _ h9 => h9) rfl dX7_reads_29 rfl ?_
        refine ga_iconst 33 C.c (v := 3) (by decide) dX7_reads_32 rfl ?_
        refine ga_icmp_eq 42 36 C.c dX7_reads_33 (by decide) rfl (fun c30192 => ?_) (fun c30192 => ?_)
        · rw [if_pos c30192] at hk1
          refine ga_aload_n 43 C.c 0 rfl rfl dX7_reads_42 rfl ?_
          refine hh_callV 46 C (as := []) (met_X7_next (eL E) D kk dE A _ rd tp rv n T s1 hs1 hn gr gt) gr (T := TX7) rfl (lw_V q623 q625 qs5 q103 q626) cd_X7_next rfl (Nat.le_of_ble_eq_true rfl) (Nat.le_of_ble_eq_true rfl) (by omega) (by omega) (Nat.le_of_ble_eq_true rfl) dX7_reads_43 rfl (fun v30194 h30193 p30195 => ?_)
          obtain ⟨rfl, gn, kn⟩ := p30195
          have gn : h30193 rd = some (.inr (7, [.ref tp, .int (nI n), .ref rv, .int (nI ((tk T n s1.1).1)), .int (nI ((tk T n s1.1).2.1)), .int ((tk T n s1.1).2.2.1), .int ((tk T n s1.1).2.2.2)])) := gn
          have g30196 := kn _ _ (nm1 (hne gt gr (by simp))) gt
          have g30197 := kn _ _ (nm1 (hne g_o gr (by simp))) g_o
          have g30198 := kn _ _ (nm1 (hne g_l0 gr (by simp))) g_l0
          have g30199 := kn _ _ (nm1 (hne g_d0 gr (by simp))) g_d0
          have g30200 := kn _ _ (nm1 (hne g_l1 gr (by simp))) g_l1
          have g30201 := kn _ _ (nm1 (hne g_d1 gr (by simp))) g_d1
          have g30202 := kn _ _ (nm1 (hne g_l2 gr (by simp))) g_l2
          have g30203 := kn _ _ (nm1 (hne g_d2 gr (by simp))) g_d2
          have g30204 := kn _ _ (nm1 (hne g_l3 gr (by simp))) g_l3
          have g30205 := kn _ _ (nm1 (hne g_d3 gr (by simp))) g_d3
          refine ga_aload_n 47 C.c 0 rfl rfl dX7_reads_46 rfl ?_
          refine ga_get1 50 2 C.c C.ts (own := RX7) (ref := "QuotedRiver$Reader") C.ow C.k (hw_one gn) in_X7 rfl (by decide) q638 (fun _ h9 => h9) rfl dX7_reads_47 rfl ?_
          refine ga_dup 51 C.c rfl dX7_reads_50 rfl ?_
          refine ga_get1N 54 7 C.c C.ts (own := RX7) (ref := "QuotedRiver$Rivers") C.ow C.k (hw_one g30197) in_X2 rfl (by decide) (C.n.use q416 rfl) (fun _ h9 => h9) rfl dX7_reads_51 rfl ?_
          refine ga_iconst 55 C.c (v := 1) (by decide) dX7_reads_54 rfl ?_
          refine ga_iadd 56 C.c dX7_reads_55 rfl ?_
          refine hh_putN 59 7 C (ref := "QuotedRiver$Rivers") (fs2 := [.ref (G1.1 7 0), .ref (G1.1 7 1), .ref (G1.1 7 2), .ref (G1.1 7 3), .int (w1 0), .int (w1 1), .int (w1 2), .int ((w1 7) + 1)]) tyX2_ok nmX2 in_X2 g30197 rfl (by decide) q416 (fun _ h9 => h9) rfl (tyX2_ok 7 (by decide)) rfl rfl (Nat.le_of_ble_eq_true rfl) rfl dX7_reads_56 rfl (fun h30206 e30207 => ?_)
          have k30208 := hu_fr e30207
          have g30209 := hu_at e30207
          clear e30207
          have g30210 := k30208 _ _ (nm1 (hne gn g30197 (by simp))) gn
          have g30211 := k30208 _ _ (nm1 (hne g30196 g30197 (by simp))) g30196
          have g30212 := k30208 _ _ (nm1 (hne g30198 g30197 (by simp))) g30198
          have g30213 := k30208 _ _ (nm1 (hne g30199 g30197 (by simp))) g30199
          have g30214 := k30208 _ _ (nm1 (hne g30200 g30197 (by simp))) g30200
          have g30215 := k30208 _ _ (nm1 (hne g30201 g30197 (by simp))) g30201
          have g30216 := k30208 _ _ (nm1 (hne g30202 g30197 (by simp))) g30202
          have g30217 := k30208 _ _ (nm1 (hne g30203 g30197 (by simp))) g30203
          have g30218 := k30208 _ _ (nm1 (hne g30204 g30197 (by simp))) g30204
          have g30219 := k30208 _ _ (nm1 (hne g30205 g30197 (by simp))) g30205
          refine ga_goto 0 C.c dX7_reads_59 (by decide) ?_
          have kF30220 : hfr hB h30206 [] := by
            intro b e nb hb
            have m_rd : b ≠ rd := hn_ne hb zr
            have m_rv : b ≠ rv := hn_ne hb N.o
            have b30221 := kB b e List.not_mem_nil hb
            have b30222 := kn b e (nm1 m_rd) b30221
            have b30223 := k30208 b e (nm1 m_rv) b30222
            exact b30223
          have HR2 : hR kk dE h30206 rv G1 (upd w1 7 (w1 7 + 1)) := HR.own (fun q _ _ _ h7 => pk_un h7) (fun b e hb n1 hn => k30208 b e (nm1 n1) (kn b e (nm1 (hne hb gr (hn _))) hb)) (by rw [pk_un (show (0 : Nat) ≠ 7 by decide), pk_un (show (1 : Nat) ≠ 7 by decide), pk_un (show (2 : Nat) ≠ 7 by decide), pk_us]; exact g30209)
          exact ih ka na _ _ _ G1 (by omega) (by omega) hk1 (tk_le hs1.1) g30210 g30211 HR2 (N.row (by unfold xr_n; rw [pk_un (by decide)])) kF30220 (by unfold xr_n; rw [pk_un (by decide)]; exact h3)
        · rw [if_neg c30192] at hk1
          refine ga_aload_n 37 C.c 0 rfl rfl dX7_reads_36 rfl ?_
          refine ga_iconst 38 C.c (v := 1) (by decide) dX7_reads_37 rfl ?_
          refine hh_callV 41 C (as := [.int 1]) (met_X7_fault (eL E) D kk dE A _ rd tp rv n T s1 hs1 hn 1 gr gt) gr (T := TX7) rfl (lw_V q727 q729 qs11 q103 q730) cd_X7_fault rfl (Nat.le_of_ble_eq_true rfl) (Nat.le_of_ble_eq_true rfl) (by omega) (by omega) (Nat.le_of_ble_eq_true rfl) dX7_reads_38 rfl (fun v30225 h30224 p30226 => ?_)
          obtain ⟨fq, nq, rfl, gf, kf⟩ := p30226
          have ne30227 : rd ≠ fq := hn_ne gr nq
          have ne30228 : tp ≠ fq := hn_ne gt nq
          have ne30229 : rv ≠ fq := hn_ne g_o nq
          have ne30230 : (G1.1 7 0) ≠ fq := hn_ne g_l0 nq
          have ne30231 : (G1.1 8 0) ≠ fq := hn_ne g_d0 nq
          have ne30232 : (G1.1 7 1) ≠ fq := hn_ne g_l1 nq
          have ne30233 : (G1.1 8 1) ≠ fq := hn_ne g_d1 nq
          have ne30234 : (G1.1 7 2) ≠ fq := hn_ne g_l2 nq
          have ne30235 : (G1.1 8 2) ≠ fq := hn_ne g_d2 nq
          have ne30236 : (G1.1 7 3) ≠ fq := hn_ne g_l3 nq
          have ne30237 : (G1.1 8 3) ≠ fq := hn_ne g_d3 nq
          have g30238 := kf _ _ List.not_mem_nil gr
          have g30239 := kf _ _ List.not_mem_nil gt
          have g30240 := kf _ _ List.not_mem_nil g_o
          have g30241 := kf _ _ List.not_mem_nil g_l0
          have g30242 := kf _ _ List.not_mem_nil g_d0
          have g30243 := kf _ _ List.not_mem_nil g_l1
          have g30244 := kf _ _ List.not_mem_nil g_d1
          have g30245 := kf _ _ List.not_mem_nil g_l2
          have g30246 := kf _ _ List.not_mem_nil g_d2
          have g30247 := kf _ _ List.not_mem_nil g_l3
          have g30248 := kf _ _ List.not_mem_nil g_d3
          have kF30249 : hfr hB h30224 [] := by
            intro b e nb hb
            have m_rd : b ≠ rd := hn_ne hb zr
            have m_rv : b ≠ rv := hn_ne hb N.o
            have b30250 := kB b e List.not_mem_nil hb
            have m_fq : b ≠ fq := hn_ne b30250 nq
            have b30251 := kf b e List.not_mem_nil b30250
            exact b30251
          exact hx_throw C hnx hlk hq gf (by omega) (by omega) ⟨_, (Option.some.inj hk1).symm, gf, kF30249⟩ dX7_reads_41
      intro ka na hx s1 w1 G1 hka hna hk1 hs1 gr gt HR N kB h3
      have hn0 := HR.1.n 0 (by decide)
      have hn1 := HR.1.n 1 (by decide)
      have hn2 := HR.1.n 2 (by decide)
      have hn3 := HR.1.n 3 (by decide)
      obtain ⟨n0, en0⟩ : ∃ n, n = xr_n w1 0 := ⟨_, rfl⟩
      rw [← en0] at hn0
      obtain ⟨n1, en1⟩ : ∃ n, n = xr_n w1 1 := ⟨_, rfl⟩
      rw [← en1] at hn1
      obtain ⟨n2, en2⟩ : ∃ n, n = xr_n w1 2 := ⟨_, rfl⟩
      rw [← en2] at hn2
      obtain ⟨n3, en3⟩ : ∃ n, n = xr_n w1 3 := ⟨_, rfl⟩
      rw [← en3] at hn3
      have g_o := HR.1.o
      have g_l0 : hx (G1.1 7 0) = some (.inr (13, [.int (G1.2.2.1 0), .ref (G1.1 8 0), .int (nI n0)])) := by
        rw [HR.1.l 0 (by decide), hn0.1]
        rfl
      have g_d0 := HR.1.d 0 (by decide)
      have g_l1 : hx (G1.1 7 1) = some (.inr (13, [.int (G1.2.2.1 1), .ref (G1.1 8 1), .int (nI n1)])) := by
        rw [HR.1.l 1 (by decide), hn1.1]
        rfl
      have g_d1 := HR.1.d 1 (by decide)
      have g_l2 : hx (G1.1 7 2) = some (.inr (13, [.int (G1.2.2.1 2), .ref (G1.1 8 2), .int (nI n2)])) := by
        rw [HR.1.l 2 (by decide), hn2.1]
        rfl
      have g_d2 := HR.1.d 2 (by decide)
      have g_l3 : hx (G1.1 7 3) = some (.inr (13, [.int (G1.2.2.1 3), .ref (G1.1 8 3), .int (nI n3)])) := by
        rw [HR.1.l 3 (by decide), hn3.1]
        rfl
      have g_d3 := HR.1.d 3 (by decide)
      refine ga_aload_n 1 C.c 0 rfl rfl dX7_reads_0 rfl ?_
      refine ga_get1 4 5 C.c C.ts (own := RX7) (ref := "QuotedRiver$Reader") C.ow C.k (hw_one gr) in_X7 rfl (by decide) q641 (fun _ h9 => h9) rfl dX7_reads_1 rfl ?_
      refine ga_if_eq 62 7 C.c dX7_reads_4 (by decide) rfl (fun c30252 => ?_) (fun c30252 => ?_)
      · have er : r = .inr w1 := by
          rw [sp_reads, if_pos c30252] at hk1
          exact (Option.some.inj hk1).symm
        exact fin ka na hx s1 w1 G1 (by omega) (by omega) er hs1 gr gt HR N kB h3
      · have hk2 : (match sp_one T n s1 w1 with | .inl f => some (.inl f) | .inr r9 => if r9.2.2.2.1 = 3 then sp_reads T n j (tk T n r9.2.1) (upd r9.1 7 (r9.1 7 + 1)) else some (.inl (1, r9.2.2.1))) = some r := by
          rw [sp_reads, if_neg c30252] at hk1
          exact hk1
        refine ga_aload_n 8 C.c 0 rfl rfl dX7_reads_7 rfl ?_
        refine ga_get1 11 2 C.c C.ts (own := RX7) (ref := "QuotedRiver$Reader") C.ow C.k (hw_one gr) in_X7 rfl (by decide) q638 (fun _ h9 => h9) rfl dX7_reads_8 rfl ?_
        refine ga_get1N 14 7 C.c C.ts (own := RX7) (ref := "QuotedRiver$Rivers") C.ow C.k (hw_one g_o) in_X2 rfl (by decide) (C.n.use q416 rfl) (fun _ h9 => h9) rfl dX7_reads_11 rfl ?_
        refine ga_if_ne 24 17 C.c dX7_reads_14 (by decide) rfl (fun c30253 => ?_) (fun c30253 => ?_)
        · refine ga_aload_n 25 C.c 0 rfl rfl dX7_reads_24 rfl ?_
          have hbn := xw_bn HR
          rw [← en0, ← en1, ← en2] at hbn
          have es : sp_told T n s1 (w1 3) (w1 4) (w1 5) = sp_told T n s1 (nI n0) (nI n1) (nI n2) := by rw [show w1 3 = nI n0 from hn0.1, show w1 4 = nI n1 from hn1.1, show w1 5 = nI n2 from hn2.1]
          have zl : ∀ i, i < 3 → hB (G1.1 7 i) = none := fun i hi => N.l i (by omega)
          have zd : ∀ i, i < 3 → hB (G1.1 8 i) = none := fun i hi => N.d i (by omega) (by rw [HR.2.1.cap hi]; have := (f4_cap hi).1; omega)
          have hc0 : hx (G1.1 8 0) = some (.inl (kk 5, 10, .inr (.inr (.inr (.inr (G1.2.2.2 0)))))) := by
            rw [g_d0, HR.2.1.c0]
          have hc1 : hx (G1.1 8 1) = some (.inl (kk 5, 5, .inr (.inr (.inr (.inr (G1.2.2.2 1)))))) := by
            rw [g_d1, HR.2.1.c1]
          have hc2 : hx (G1.1 8 2) = some (.inl (kk 5, 5, .inr (.inr (.inr (.inr (G1.2.2.2 2)))))) := by
            rw [g_d2, HR.2.1.c2]
          refine hx_callV 28 C hnx hlk hq (as := []) (met_X7_told (eL E) D kk dE A _ rd tp rv n T s1 hs1 hn (G1.1 7 0) (G1.1 7 1) (G1.1 7 2) (G1.1 7 3) (w1 0) (w1 1) (w1 2) (w1 7) (G1.1 8 0) (G1.1 8 1) (G1.1 8 2) n0 n1 n2 (G1.2.2.2 0) (G1.2.2.2 1) (G1.2.2.2 2) (G1.2.2.1 0) (G1.2.2.1 1) (G1.2.2.1 2) hbn.1 hbn.2.1 hbn.2.2 (hne gt hc0 (by simp)) (hne gt hc1 (by simp)) (hne gt hc2 (by simp)) (HR.2.2.l 0 1 (by decide) (by decide) (by decide)) (HR.2.2.l 0 2 (by decide) (by decide) (by decide)) (HR.2.2.l 1 2 (by decide) (by decide) (by decide)) (HR.2.2.d 0 1 (by decide) (by decide) (by decide) (by rw [HR.2.1.c0]; decide)) (HR.2.2.d 0 2 (by decide) (by decide) (by decide) (by rw [HR.2.1.c0]; decide)) (HR.2.2.d 1 2 (by decide) (by decide) (by decide) (by rw [HR.2.1.c1]; decide)) gr gt g_o g_l0 g_l1 g_l2 hc0 hc1 hc2) (fun q h9 hp9 => by obtain ⟨f, e1, e2, e3⟩ := hp9; have e9 : sp_one T n s1 w1 = .inl f := (by unfold sp_one; rw [if_neg c30253, es]; exact sp_b_l e1); rw [e9] at hk2; exact ⟨f, (Option.some.inj hk2).symm, e2, kB.tr e3 (fun x hx => absurd hx List.not_mem_nil) (fun x hx => Or.inr (by simp at hx; rcases hx with q | q | q | q | q | q | q <;> rw [q]; exact zr; exact zl 0 (by decide); exact zd 0 (by decide); exact zl 1 (by decide); exact zd 1 (by decide); exact zl 2 (by decide); exact zd 2 (by decide)))⟩) gr (T := TX7) rfl (lw_V q773 q775 qs14 q103 q776) cd_X7_told rfl (Nat.le_of_ble_eq_true rfl) (Nat.le_of_ble_eq_true rfl) (by omega) (by omega) (Nat.le_of_ble_eq_true rfl) dX7_reads_25 rfl (fun v30255 h30254 p30256 => ?_)
          obtain ⟨rfl, i, t, x, s2, e2, hi, hs2, zx, gx, g2, gl, gd, hlt, k2⟩ := p30256
          have q7 : f4 (G1.1 7 0) (G1.1 7 1) (G1.1 7 2) (G1.1 7 0) i = G1.1 7 i := f4_eq (F := G1.1 7) hi
          have q8 : f4 (G1.1 8 0) (G1.1 8 1) (G1.1 8 2) (G1.1 8 0) i = G1.1 8 i := f4_eq (F := G1.1 8) hi
          have qn : f4 n0 n1 n2 n0 i = xr_n w1 i := by rw [en0, en1, en2]; exact f4_eq (F := xr_n w1) hi
          have qf : f4 (G1.2.2.2 0) (G1.2.2.2 1) (G1.2.2.2 2) (G1.2.2.2 0) i = G1.2.2.2 i := f4_eq (F := G1.2.2.2) hi
          rw [q7, q8, qn] at gl
          rw [q8, qf, qn, ← HR.2.1.cap hi] at gd
          rw [qn, ← HR.2.1.cap hi] at hlt
          rw [q7, q8] at k2
          have zx9 : hB x = none := by
            cases c9 : hB x with
            | none => rfl
            | some e9 => rw [kB _ _ List.not_mem_nil c9] at zx; cases zx
          have HR2 := HR.add hi hlt h3 (fun b e hb n7 n8 hr => k2 b e (nm3 (hne hb gr (hr _)) n7 n8) hb) gl gd zx gx
          have N2 := N.add (m2 := f4 (G1.2.2.1 0) (G1.2.2.1 1) (G1.2.2.1 2) (G1.2.2.1 0) i + 1) (t := t) hi zx9 (xw_bn HR)
          have kB2 : hfr hB h30254 [] := kB.tr k2 (fun x hx => absurd hx List.not_mem_nil) (fun x hx => Or.inr (by simp at hx; rcases hx with q | q | q <;> rw [q]; exact zr; exact zl i hi; exact zd i hi))
          have gt2 := k2 _ _ (nm3 (hne gt gr (by simp)) (hne gt (HR.1.l i (by omega)) (by simp)) (hne gt (HR.1.d i (by omega)) (by simp))) gt
          have e9 : sp_one T n s1 w1 = .inr (sp_w w1 i t, s2) := by
            unfold sp_one
            rw [if_neg c30253, es, sp_b_r e2]
          rw [e9] at hk2
          exact tail (ka + 18) (na + 120) _ s2 (sp_w w1 i t) _ (by omega) (by omega) hk2 hs2 g2 gt2 HR2 N2 kB2 (by unfold xr_n; rw [sp_w_lo hi (by decide) (by omega)]; exact h3)
        · refine ga_aload_n 18 C.c 0 rfl rfl dX7_reads_17 rfl ?_
          refine hx_callV 21 C hnx hlk hq (as := []) (met_X7_riversLine (eL E) D kk dE A _ rd tp rv n T s1 hs1 hn (G1.1 7 0) (G1.1 7 1) (G1.1 7 2) (G1.1 7 3) (w1 0) (w1 1) (w1 2) (w1 7) gr gt g_o) (fun q h9 hp9 => by obtain ⟨f, e1, e2, e3⟩ := hp9; have e9 : sp_one T n s1 w1 = .inl f := (by unfold sp_one; rw [if_pos c30253]; exact sp_b_l e1); rw [e9] at hk2; exact ⟨f, (Option.some.inj hk2).symm, e2, kB.tr e3 (fun x hx => absurd hx List.not_mem_nil) (fun x hx => by simp at hx; rcases hx with q | q; exact Or.inr (by rw [q]; exact zr); exact Or.inr (by rw [q]; exact N.o))⟩) gr (T := TX7) rfl (lw_V q662 q664 qs7 q103 q665) cd_X7_riversLine rfl (Nat.le_of_ble_eq_true rfl) (Nat.le_of_ble_eq_true rfl) (by omega) (by omega) (Nat.le_of_ble_eq_true rfl) dX7_reads_18 rfl (fun v30258 h30257 p30259 => ?_)
          obtain ⟨rfl, xa, xb, xc, s2, e2, hs2, g2, gv, k2⟩ := p30259
          have g2 : h30257 rd = some (.inr (7, [.ref tp, .int (nI n), .ref rv, .int (nI s2.1), .int (nI s2.2.1), .int s2.2.2.1, .int s2.2.2.2])) := g2
          have g30260 := k2 _ _ (nm2 (hne gt gr (by simp)) (hne gt g_o (by simp))) gt
          have g30261 := k2 _ _ (nm2 (hne g_l0 gr (by simp)) (hne g_l0 g_o (by simp))) g_l0
          have g30262 := k2 _ _ (nm2 (hne g_d0 gr (by simp)) (hne g_d0 g_o (by simp))) g_d0
          have g30263 := k2 _ _ (nm2 (hne g_l1 gr (by simp)) (hne g_l1 g_o (by simp))) g_l1
          have g30264 := k2 _ _ (nm2 (hne g_d1 gr (by simp)) (hne g_d1 g_o (by simp))) g_d1
          have g30265 := k2 _ _ (nm2 (hne g_l2 gr (by simp)) (hne g_l2 g_o (by simp))) g_l2
          have g30266 := k2 _ _ (nm2 (hne g_d2 gr (by simp)) (hne g_d2 g_o (by simp))) g_d2
          have g30267 := k2 _ _ (nm2 (hne g_l3 gr (by simp)) (hne g_l3 g_o (by simp))) g_l3
          have g30268 := k2 _ _ (nm2 (hne g_d3 gr (by simp)) (hne g_d3 g_o (by simp))) g_d3
          refine ga_goto 28 C.c dX7_reads_21 (by decide) ?_
          have kF30269 : hfr hB h30257 [] := by
            intro b e nb hb
            have m_rd : b ≠ rd := hn_ne hb zr
            have m_rv : b ≠ rv := hn_ne hb N.o
            have b30270 := kB b e List.not_mem_nil hb
            have b30271 := k2 b e (nm2 m_rd m_rv) b30270
            exact b30271
          have e9 : sp_one T n s1 w1 = .inr (upd (upd (upd w1 0 xa) 1 xb) 2 xc, s2) := by
            unfold sp_one
            rw [if_pos c30253, sp_b_r e2]
          rw [e9] at hk2
          have HR2 : hR kk dE h30257 rv G1 (upd (upd (upd w1 0 xa) 1 xb) 2 xc) := HR.own (fun q h0 h1 h2 _ => by rw [pk_un h2, pk_un h1, pk_un h0]) (fun b e hb n1 hn => k2 b e (nm2 (hne hb gr (hn _)) n1) hb) gv
          exact tail (ka + 7) (na + 56) _ s2 (upd (upd (upd w1 0 xa) 1 xb) 2 xc) G1 (by omega) (by omega) hk2 hs2 g2 g30260 HR2 (N.row (by unfold xr_n; rw [pk_un (by decide), pk_un (by decide), pk_un (by decide)])) kF30269 (by unfold xr_n; rw [pk_un (by decide), pk_un (by decide), pk_un (by decide)]; exact h3)
  exact loop k 0 0 h s w0 G0 (by omega) (by omega) hk hs g_rd g_tp HR0 N0 kB0 h30
