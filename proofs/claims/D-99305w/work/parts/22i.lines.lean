set_option maxRecDepth 100000
theorem cd_X7_reach : yX7_reach.cls = RX7 ∧ yX7_reach.cls ≠ "java/lang/invoke/MethodHandle" ∧ yX7_reach.cls ≠ "java/lang/invoke/VarHandle" ∧ (parseMethodDescriptor yX7_reach.desc).map (fun d => d.parameters.length) = some 0 := by decide +kernel
set_option maxHeartbeats 4000000 in
theorem met_X7_reach (l : Launch) (D : va_G) (kk : Nat → Nat) (dE : Nat → Nat) (A : Nat → Prop) (h : hG) (rd tp rv n : Nat) (T : Nat → Int32) (s : sT) (hs : s.1 ≤ n ∧ s.2.1 ≤ s.1) (hn : n ≤ 700) (l0 l1 l2 l3 : Nat) (lv od sw li : Int32) (d0 n0 : Nat) (m0 : Int32) (g_rd : h rd = some (.inr (7, [.ref tp, .int (nI n), .ref rv, .int (nI s.1), .int (nI s.2.1), .int s.2.2.1, .int s.2.2.2]))) (g_tp : h tp = some (.inl (kk 2, 700, .inl T))) (g_rv : h rv = some (.inr (3, [.ref l0, .ref l1, .ref l2, .ref l3, .int lv, .int od, .int sw, .int li]))) (g_l0 : h l0 = some (.inr (13, [.int m0, .ref d0, .int (nI n0)]))) : vx_Met l yX7_reach (ws_ yX7_reach cX7_reach 1 (some .int)) ({ frames := 7, cells := 1, slots := 8, locals := 320 } : Room) (hw_Pc D kk dE A h [.ref rd]) (hw_Qc D A (fun v h2 => ∃ x s2, sp_num T n s 0 (nI n0 - 1) = .inr (x, s2) ∧ v = some (.int x) ∧ (s2.1 ≤ n ∧ s2.2.1 ≤ s2.1) ∧ h2 rd = some (rdc tp n rv s2) ∧ hfr h h2 [rd])) (hx_X D A (fun q h2 => ∃ f, sp_num T n s 0 (nI n0 - 1) = .inl f ∧ FT h2 q f ∧ hfr h h2 [rd])) (1) (8) A := by
  refine hx_of (RX := RX7) (lo := [some (.ref rd)]) (by decide) rfl (Nat.le_of_ble_eq_true rfl) rfl (fun E C hnx hr hlk hq => ?_)
  have ne26001 : rd ≠ tp := hne g_rd g_tp (by simp)
  have ne26002 : rd ≠ rv := hne g_rd g_rv (by simp)
  have ne26003 : rd ≠ l0 := hne g_rd g_l0 (by simp)
  have ne26004 : tp ≠ rv := hne g_tp g_rv (by simp)
  have ne26005 : tp ≠ l0 := hne g_tp g_l0 (by simp)
  have ne26006 : rv ≠ l0 := hne g_rv g_l0 (by simp)
  refine ga_aload_n 1 C.c 0 rfl rfl dX7_reach_0 rfl ?_
  refine ga_iconst 2 C.c (v := 0) (by decide) dX7_reach_1 rfl ?_
  refine ga_aload_n 3 C.c 0 rfl rfl dX7_reach_2 rfl ?_
  refine ga_get1 6 2 C.c C.ts (own := RX7) (ref := "QuotedRiver$Reader") C.ow C.k (hw_one g_rd) in_X7 rfl (by decide) q638 (fun _ h9 => h9) rfl dX7_reach_3 rfl ?_
  refine ga_get1N 9 0 C.c C.ts (own := RX7) (ref := "QuotedRiver$Rivers") C.ow C.k (hw_one g_rv) in_X2 rfl (by decide) (C.n.use q389 rfl) (fun _ h9 => h9) rfl dX7_reach_6 rfl ?_
  refine hh_size 14 C g_l0 q783 (Nat.le_of_ble_eq_true rfl) (Nat.le_of_ble_eq_true rfl) (Nat.le_of_ble_eq_true rfl) (Nat.le_of_ble_eq_true rfl) (Nat.le_of_ble_eq_true rfl) dX7_reach_9 rfl ?_
  refine ga_iconst 15 C.c (v := 1) (by decide) dX7_reach_14 rfl ?_
  refine ga_isub 16 C.c dX7_reach_15 rfl ?_
  refine hx_callV 19 C hnx hlk hq (as := [.int 0, .int ((nI n0) - 1)]) (met_X7_number_2 (eL E) D kk dE A _ rd tp rv n T s hs hn 0 (nI n0 - 1) g_rd g_tp) (fun q hq9 hp9 => by obtain ⟨f, e1, e2, e3⟩ := hp9; exact ⟨f, e1, e2, e3.tr hfr.rf (fun x hx => by simp at hx; simp [hx]) (fun x hx => Or.inl hx)⟩) g_rd (T := TX7) rfl (lw_V q767 q769 qs13 q103 q770) cd_X7_number_2 rfl (Nat.le_of_ble_eq_true rfl) (Nat.le_of_ble_eq_true rfl) (Nat.le_of_ble_eq_true rfl) (Nat.le_of_ble_eq_true rfl) (Nat.le_of_ble_eq_true rfl) dX7_reach_16 rfl (fun v26008 h26007 p26009 => ?_)
  obtain ⟨xa, sa, ea, rfl, hsa, ga, ka⟩ := p26009
  have g26010 := ka _ _ (nm1 (Ne.symm ne26001)) g_tp
  have g26011 := ka _ _ (nm1 (Ne.symm ne26002)) g_rv
  have g26012 := ka _ _ (nm1 (Ne.symm ne26003)) g_l0
  have kF26013 : hfr h h26007 [rd] := by
    intro b e nb hb
    have b26014 := ka b e (nm1 (nx nb (by simp))) hb
    exact b26014
  exact hx_iret C hr hlk hq rfl (Nat.le_of_ble_eq_true rfl) (Nat.le_of_ble_eq_true rfl) ⟨_, _, ea, rfl, hsa, ga, kF26013⟩ dX7_reach_19
theorem cd_X7_line : yX7_line.cls = RX7 ∧ yX7_line.cls ≠ "java/lang/invoke/MethodHandle" ∧ yX7_line.cls ≠ "java/lang/invoke/VarHandle" ∧ (parseMethodDescriptor yX7_line.desc).map (fun d => d.parameters.length) = some 3 := by decide +kernel
set_option maxHeartbeats 4000000 in
theorem met_X7_line (l : Launch) (D : va_G) (kk : Nat → Nat) (dE : Nat → Nat) (A : Nat → Prop) (h : hG) (rd tp rv n : Nat) (T : Nat → Int32) (s : sT) (hs : s.1 ≤ n ∧ s.2.1 ≤ s.1) (hn : n ≤ 700) (w : Nat) (hw : w < 13) (la d : Nat) (m c0 most : Int32) (g_rd : h rd = some (.inr (7, [.ref tp, .int (nI n), .ref rv, .int (nI s.1), .int (nI s.2.1), .int s.2.2.1, .int s.2.2.2]))) (g_tp : h tp = some (.inl (kk 2, 700, .inl T))) (g_la : h la = some (.inr (13, [.int m, .ref d, .int c0]))) : vx_Met l yX7_line (ws_ yX7_line cX7_line 4 (some .boolean)) ({ frames := 6, cells := 1, slots := 8, locals := 280 } : Room) (hw_Pc D kk dE A h [.ref rd, .ref ((tgE dE).1 w), .ref la, .int most]) (hw_Qc D A (fun v h2 => ∃ x s2, sp_line T n s w c0 most = .inr (x, s2) ∧ v = some (.int x) ∧ (s2.1 ≤ n ∧ s2.2.1 ≤ s2.1) ∧ h2 rd = some (rdc tp n rv s2) ∧ hfr h h2 [rd])) (hx_X D A (fun q h2 => ∃ f, sp_line T n s w c0 most = .inl f ∧ FT h2 q f ∧ hfr h h2 [rd])) (1) (8) A := by
  refine hx_of (RX := RX7) (lo := [some (.ref rd), some (.ref ((tgE dE).1 w)), some (.ref la), some (.int most)]) (by decide) rfl (Nat.le_of_ble_eq_true rfl) rfl (fun E C hnx hr hlk hq => ?_)
  have ne26015 : rd ≠ tp := hne g_rd g_tp (by simp)
  have ne26016 : rd ≠ la := hne g_rd g_la (by simp)
  have ne26017 : tp ≠ la := hne g_tp g_la (by simp)
  refine ga_aload_n 1 C.c 0 rfl rfl dX7_line_0 rfl ?_
  refine ga_aload_n 2 C.c 1 rfl rfl dX7_line_1 rfl ?_
  refine hh_callV 5 C (as := [.ref ((tgE dE).1 w)]) (met_X7_is (eL E) D kk dE A _ rd tp rv n T s hs hn w hw g_rd g_tp) g_rd (T := TX7) rfl (lw_V q675 q677 qs10 q103 q678) cd_X7_is rfl (Nat.le_of_ble_eq_true rfl) (Nat.le_of_ble_eq_true rfl) (Nat.le_of_ble_eq_true rfl) (Nat.le_of_ble_eq_true rfl) (Nat.le_of_ble_eq_true rfl) dX7_line_2 rfl (fun v26019 h26018 p26020 => ?_)
  obtain ⟨rfl, e26021⟩ := p26020
  have e26021 := e26021.symm
  subst e26021
  by_cases c26022 : sp_is T s w = true
  · rw [if_pos c26022]
    refine ga_if_ne 10 8 C.c dX7_line_5 (by decide) rfl (fun c26023 => ?_) (fun c26023 => absurd c26023 (by decide))
    refine ga_aload_n 11 C.c 2 rfl rfl dX7_line_10 rfl ?_
    refine hh_size 16 C g_la q783 (Nat.le_of_ble_eq_true rfl) (Nat.le_of_ble_eq_true rfl) (Nat.le_of_ble_eq_true rfl) (Nat.le_of_ble_eq_true rfl) (Nat.le_of_ble_eq_true rfl) dX7_line_11 rfl ?_
    refine ga_iload_n 17 C.c 3 rfl rfl dX7_line_16 rfl ?_
    refine ga_icmp_ne 26 20 C.c dX7_line_17 (by decide) rfl (fun c26024 => ?_) (fun c26024 => ?_)
    · refine ga_aload_n 27 C.c 0 rfl rfl dX7_line_26 rfl ?_
      refine hh_callV 30 C (as := []) (met_X7_next (eL E) D kk dE A _ rd tp rv n T s hs hn g_rd g_tp) g_rd (T := TX7) rfl (lw_V q623 q625 qs5 q103 q626) cd_X7_next rfl (Nat.le_of_ble_eq_true rfl) (Nat.le_of_ble_eq_true rfl) (Nat.le_of_ble_eq_true rfl) (Nat.le_of_ble_eq_true rfl) (Nat.le_of_ble_eq_true rfl) dX7_line_27 rfl (fun v26026 h26025 p26027 => ?_)
      obtain ⟨rfl, gn, kn⟩ := p26027
      have g26028 := kn _ _ (nm1 (Ne.symm ne26015)) g_tp
      have g26029 := kn _ _ (nm1 (Ne.symm ne26016)) g_la
      refine ga_iconst 31 C.c (v := 1) (by decide) dX7_line_30 rfl ?_
      exact hx_iret C hr hlk hq rfl (Nat.le_of_ble_eq_true rfl) (Nat.le_of_ble_eq_true rfl) ⟨1, tk T n s.1, by unfold sp_line; rw [if_pos c26022, if_neg c26024], rfl, tk_le hs.1, gn, kn⟩ dX7_line_31
    · refine ga_aload_n 21 C.c 0 rfl rfl dX7_line_20 rfl ?_
      refine ga_iconst 22 C.c (v := 3) (by decide) dX7_line_21 rfl ?_
      refine hh_callV 25 C (as := [.int 3]) (met_X7_fault (eL E) D kk dE A _ rd tp rv n T s hs hn 3 g_rd g_tp) g_rd (T := TX7) rfl (lw_V q727 q729 qs11 q103 q730) cd_X7_fault rfl (Nat.le_of_ble_eq_true rfl) (Nat.le_of_ble_eq_true rfl) (Nat.le_of_ble_eq_true rfl) (Nat.le_of_ble_eq_true rfl) (Nat.le_of_ble_eq_true rfl) dX7_line_22 rfl (fun v26031 h26030 p26032 => ?_)
      obtain ⟨fq, nq, rfl, gf, kf⟩ := p26032
      have ne26033 : rd ≠ fq := hn_ne g_rd nq
      have ne26034 : tp ≠ fq := hn_ne g_tp nq
      have ne26035 : la ≠ fq := hn_ne g_la nq
      have g26036 := kf _ _ List.not_mem_nil g_rd
      have g26037 := kf _ _ List.not_mem_nil g_tp
      have g26038 := kf _ _ List.not_mem_nil g_la
      have kF26039 : hfr h h26030 [rd] := by
        intro b e nb hb
        have m_fq : b ≠ fq := hn_ne hb nq
        have b26040 := kf b e List.not_mem_nil hb
        exact b26040
      exact hx_throw C hnx hlk hq gf (Nat.le_of_ble_eq_true rfl) (Nat.le_of_ble_eq_true rfl) ⟨_, by unfold sp_line; rw [if_pos c26022, if_pos c26024], gf, kF26039⟩ dX7_line_25
  · rw [if_neg c26022]
    refine ga_if_ne 10 8 C.c dX7_line_5 (by decide) rfl (fun c26041 => absurd rfl c26041) (fun c26041 => ?_)
    refine ga_iconst 9 C.c (v := 0) (by decide) dX7_line_8 rfl ?_
    exact hx_iret C hr hlk hq rfl (Nat.le_of_ble_eq_true rfl) (Nat.le_of_ble_eq_true rfl) ⟨0, s, by unfold sp_line; rw [if_neg c26022], rfl, hs, g_rd, hfr.rf⟩ dX7_line_9
theorem cd_X7_riversLine : yX7_riversLine.cls = RX7 ∧ yX7_riversLine.cls ≠ "java/lang/invoke/MethodHandle" ∧ yX7_riversLine.cls ≠ "java/lang/invoke/VarHandle" ∧ (parseMethodDescriptor yX7_riversLine.desc).map (fun d => d.parameters.length) = some 0 := by decide +kernel
set_option maxHeartbeats 4000000 in
theorem met_X7_riversLine (l : Launch) (D : va_G) (kk : Nat → Nat) (dE : Nat → Nat) (A : Nat → Prop) (h : hG) (rd tp rv n : Nat) (T : Nat → Int32) (s : sT) (hs : s.1 ≤ n ∧ s.2.1 ≤ s.1) (hn : n ≤ 700) (l0 l1 l2 l3 : Nat) (lv od sw li : Int32) (g_rd : h rd = some (.inr (7, [.ref tp, .int (nI n), .ref rv, .int (nI s.1), .int (nI s.2.1), .int s.2.2.1, .int s.2.2.2]))) (g_tp : h tp = some (.inl (kk 2, 700, .inl T))) (g_rv : h rv = some (.inr (3, [.ref l0, .ref l1, .ref l2, .ref l3, .int lv, .int od, .int sw, .int li]))) : vx_Met l yX7_riversLine (ws_ yX7_riversLine cX7_riversLine 1 none) ({ frames := 8, cells := 7, slots := 56, locals := 360 } : Room) (hw_Pc D kk dE A h [.ref rd]) (hw_Qc D A (fun v h2 => v = none ∧ ∃ a b c s2, sp_first T n s = .inr (a, b, c, s2) ∧ (s2.1 ≤ n ∧ s2.2.1 ≤ s2.1) ∧ h2 rd = some (rdc tp n rv s2) ∧ h2 rv = some (.inr (3, [.ref l0, .ref l1, .ref l2, .ref l3, .int a, .int b, .int c, .int li])) ∧ hfr h h2 [rd, rv])) (hx_X D A (fun q h2 => ∃ f, sp_first T n s = .inl f ∧ FT h2 q f ∧ hfr h h2 [rd, rv])) (7) (56) A := by
  refine hx_of (RX := RX7) (lo := [some (.ref rd)]) (by decide) rfl (Nat.le_of_ble_eq_true rfl) rfl (fun E C hnx hr hlk hq => ?_)
  have ne26042 : rd ≠ tp := hne g_rd g_tp (by simp)
  have ne26043 : rd ≠ rv := hne g_rd g_rv (by simp)
  have ne26044 : tp ≠ rv := hne g_tp g_rv (by simp)
  refine ga_aload_n 1 C.c 0 rfl rfl dX7_riversLine_0 rfl ?_
  refine hh_ldcS 3 C (tx := "rivers") (i := 0) (by decide +kernel) dX7_riversLine_1 rfl ?_
  refine hx_callV 6 C hnx hlk hq (as := [.ref ((tgE dE).1 0)]) (met_X7_asks (eL E) D kk dE A _ rd tp rv n T s hs hn 0 (by decide) g_rd g_tp) (fun q hq9 hp9 => by obtain ⟨f, e1, e2, e3⟩ := hp9; exact ⟨f, by unfold sp_first; exact sp_b_l e1, e2, e3.tr hfr.rf (fun x hx => by simp at hx; simp [hx]) (fun x hx => Or.inl hx)⟩) g_rd (T := TX7) rfl (lw_V q667 q669 qs8 q103 q670) cd_X7_asks rfl (Nat.le_of_ble_eq_true rfl) (Nat.le_of_ble_eq_true rfl) (Nat.le_of_ble_eq_true rfl) (Nat.le_of_ble_eq_true rfl) (Nat.le_of_ble_eq_true rfl) dX7_riversLine_3 rfl (fun v26046 h26045 p26047 => ?_)
  obtain ⟨rfl, sa, ea, hsa, ga, ka⟩ := p26047
  have g26048 := ka _ _ (nm1 (Ne.symm ne26042)) g_tp
  have g26049 := ka _ _ (nm1 (Ne.symm ne26043)) g_rv
  refine ga_aload_n 7 C.c 0 rfl rfl dX7_riversLine_6 rfl ?_
  refine ga_get1 10 2 C.c C.ts (own := RX7) (ref := "QuotedRiver$Reader") C.ow C.k (hw_one ga) in_X7 rfl (by decide) q638 (fun _ h9 => h9) rfl dX7_riversLine_7 rfl ?_
  refine ga_aload_n 11 C.c 0 rfl rfl dX7_riversLine_10 rfl ?_
  refine hh_ldcS 13 C (tx := "level") (i := 1) (by decide +kernel) dX7_riversLine_11 rfl ?_
  refine ga_iconst 14 C.c (v := 0) (by decide) dX7_riversLine_13 rfl ?_
  refine ga_bipush 16 C.c (v := 60) (by decide) dX7_riversLine_14 rfl ?_
  have kF26050 : hfr h h26045 [rd, rv] := by
    intro b e nb hb
    have b26051 := ka b e (nm1 (nx nb (by simp))) hb
    exact b26051
  refine hx_callV 19 C hnx hlk hq (as := [.ref ((tgE dE).1 1), .int 0, .int 60]) (met_X7_number (eL E) D kk dE A _ rd tp rv n T sa hsa hn 1 (by decide) 0 60 ga g26048) (fun q hq9 hp9 => by obtain ⟨f, e1, e2, e3⟩ := hp9; exact ⟨f, by unfold sp_first; rw [sp_b_r ea]; exact sp_b_l e1, e2, kF26050.tr e3 (fun x hx => hx) (fun x hx => Or.inl (by simp at hx; simp [hx]))⟩) ga (T := TX7) rfl (lw_V q763 q765 qs12 q103 q766) cd_X7_number rfl (Nat.le_of_ble_eq_true rfl) (Nat.le_of_ble_eq_true rfl) (Nat.le_of_ble_eq_true rfl) (Nat.le_of_ble_eq_true rfl) (Nat.le_of_ble_eq_true rfl) dX7_riversLine_16 rfl (fun v26053 h26052 p26054 => ?_)
  obtain ⟨xb, sb, eb, rfl, hsb, gb, kb⟩ := p26054
  have g26055 := kb _ _ (nm1 (Ne.symm ne26042)) g26048
  have g26056 := kb _ _ (nm1 (Ne.symm ne26043)) g26049
  refine hh_putN 22 4 C (ref := "QuotedRiver$Rivers") (fs2 := [.ref l0, .ref l1, .ref l2, .ref l3, .int xb, .int od, .int sw, .int li]) tyX2_ok nmX2 in_X2 g26056 rfl (by decide) q404 (fun _ h9 => h9) rfl (tyX2_ok 4 (by decide)) rfl rfl (Nat.le_of_ble_eq_true rfl) rfl dX7_riversLine_19 rfl (fun h26057 e26058 => ?_)
  have k26059 := hu_fr e26058
  have g26060 := hu_at e26058
  clear e26058
  have g26061 := k26059 _ _ (nm1 ne26043) gb
  have g26062 := k26059 _ _ (nm1 ne26044) g26055
  refine ga_aload_n 23 C.c 0 rfl rfl dX7_riversLine_22 rfl ?_
  refine ga_get1 26 2 C.c C.ts (own := RX7) (ref := "QuotedRiver$Reader") C.ow C.k (hw_one g26061) in_X7 rfl (by decide) q638 (fun _ h9 => h9) rfl dX7_riversLine_23 rfl ?_
  refine ga_aload_n 27 C.c 0 rfl rfl dX7_riversLine_26 rfl ?_
  refine hh_ldcS 29 C (tx := "odds") (i := 2) (by decide +kernel) dX7_riversLine_27 rfl ?_
  refine ga_iconst 30 C.c (v := 0) (by decide) dX7_riversLine_29 rfl ?_
  refine ga_bipush 32 C.c (v := 10) (by decide) dX7_riversLine_30 rfl ?_
  have kF26063 : hfr h h26057 [rd, rv] := by
    intro b e nb hb
    have b26064 := ka b e (nm1 (nx nb (by simp))) hb
    have b26065 := kb b e (nm1 (nx nb (by simp))) b26064
    have b26066 := k26059 b e (nm1 (nx nb (by simp))) b26065
    exact b26066
  refine hx_callV 35 C hnx hlk hq (as := [.ref ((tgE dE).1 2), .int 0, .int 10]) (met_X7_number (eL E) D kk dE A _ rd tp rv n T sb hsb hn 2 (by decide) 0 10 g26061 g26062) (fun q hq9 hp9 => by obtain ⟨f, e1, e2, e3⟩ := hp9; exact ⟨f, by unfold sp_first; rw [sp_b_r ea, sp_b_r eb]; exact sp_b_l e1, e2, kF26063.tr e3 (fun x hx => hx) (fun x hx => Or.inl (by simp at hx; simp [hx]))⟩) g26061 (T := TX7) rfl (lw_V q763 q765 qs12 q103 q766) cd_X7_number rfl (Nat.le_of_ble_eq_true rfl) (Nat.le_of_ble_eq_true rfl) (Nat.le_of_ble_eq_true rfl) (Nat.le_of_ble_eq_true rfl) (Nat.le_of_ble_eq_true rfl) dX7_riversLine_32 rfl (fun v26068 h26067 p26069 => ?_)
  obtain ⟨xc, sc, ec, rfl, hsc, gc, kc⟩ := p26069
  have g26070 := kc _ _ (nm1 (Ne.symm ne26042)) g26062
  have g26071 := kc _ _ (nm1 (Ne.symm ne26043)) g26060
  refine hh_putN 38 5 C (ref := "QuotedRiver$Rivers") (fs2 := [.ref l0, .ref l1, .ref l2, .ref l3, .int xb, .int xc, .int sw, .int li]) tyX2_ok nmX2 in_X2 g26071 rfl (by decide) q408 (fun _ h9 => h9) rfl (tyX2_ok 5 (by decide)) rfl rfl (Nat.le_of_ble_eq_true rfl) rfl dX7_riversLine_35 rfl (fun h26072 e26073 => ?_)
  have k26074 := hu_fr e26073
  have g26075 := hu_at e26073
  clear e26073
  have g26076 := k26074 _ _ (nm1 ne26043) gc
  have g26077 := k26074 _ _ (nm1 ne26044) g26070
  refine ga_aload_n 39 C.c 0 rfl rfl dX7_riversLine_38 rfl ?_
  refine ga_get1 42 2 C.c C.ts (own := RX7) (ref := "QuotedRiver$Reader") C.ow C.k (hw_one g26076) in_X7 rfl (by decide) q638 (fun _ h9 => h9) rfl dX7_riversLine_39 rfl ?_
  refine ga_aload_n 43 C.c 0 rfl rfl dX7_riversLine_42 rfl ?_
  refine hh_ldcS 45 C (tx := "swell") (i := 3) (by decide +kernel) dX7_riversLine_43 rfl ?_
  refine ga_iconst 46 C.c (v := 1) (by decide) dX7_riversLine_45 rfl ?_
  refine ga_bipush 48 C.c (v := 9) (by decide) dX7_riversLine_46 rfl ?_
  have kF26078 : hfr h h26072 [rd, rv] := by
    intro b e nb hb
    have b26079 := ka b e (nm1 (nx nb (by simp))) hb
    have b26080 := kb b e (nm1 (nx nb (by simp))) b26079
    have b26081 := k26059 b e (nm1 (nx nb (by simp))) b26080
    have b26082 := kc b e (nm1 (nx nb (by simp))) b26081
    have b26083 := k26074 b e (nm1 (nx nb (by simp))) b26082
    exact b26083
  refine hx_callV 51 C hnx hlk hq (as := [.ref ((tgE dE).1 3), .int 1, .int 9]) (met_X7_number (eL E) D kk dE A _ rd tp rv n T sc hsc hn 3 (by decide) 1 9 g26076 g26077) (fun q hq9 hp9 => by obtain ⟨f, e1, e2, e3⟩ := hp9; exact ⟨f, by unfold sp_first; rw [sp_b_r ea, sp_b_r eb, sp_b_r ec]; exact sp_b_l e1, e2, kF26078.tr e3 (fun x hx => hx) (fun x hx => Or.inl (by simp at hx; simp [hx]))⟩) g26076 (T := TX7) rfl (lw_V q763 q765 qs12 q103 q766) cd_X7_number rfl (Nat.le_of_ble_eq_true rfl) (Nat.le_of_ble_eq_true rfl) (Nat.le_of_ble_eq_true rfl) (Nat.le_of_ble_eq_true rfl) (Nat.le_of_ble_eq_true rfl) dX7_riversLine_48 rfl (fun v26085 h26084 p26086 => ?_)
  obtain ⟨xd, sd, ed, rfl, hsd, gd, kd⟩ := p26086
  have g26087 := kd _ _ (nm1 (Ne.symm ne26042)) g26077
  have g26088 := kd _ _ (nm1 (Ne.symm ne26043)) g26075
  refine hh_putN 54 6 C (ref := "QuotedRiver$Rivers") (fs2 := [.ref l0, .ref l1, .ref l2, .ref l3, .int xb, .int xc, .int xd, .int li]) tyX2_ok nmX2 in_X2 g26088 rfl (by decide) q412 (fun _ h9 => h9) rfl (tyX2_ok 6 (by decide)) rfl rfl (Nat.le_of_ble_eq_true rfl) rfl dX7_riversLine_51 rfl (fun h26089 e26090 => ?_)
  have k26091 := hu_fr e26090
  have g26092 := hu_at e26090
  clear e26090
  have g26093 := k26091 _ _ (nm1 ne26043) gd
  have g26094 := k26091 _ _ (nm1 ne26044) g26087
  have kF26095 : hfr h h26089 [rd, rv] := by
    intro b e nb hb
    have b26096 := ka b e (nm1 (nx nb (by simp))) hb
    have b26097 := kb b e (nm1 (nx nb (by simp))) b26096
    have b26098 := k26059 b e (nm1 (nx nb (by simp))) b26097
    have b26099 := kc b e (nm1 (nx nb (by simp))) b26098
    have b26100 := k26074 b e (nm1 (nx nb (by simp))) b26099
    have b26101 := kd b e (nm1 (nx nb (by simp))) b26100
    have b26102 := k26091 b e (nm1 (nx nb (by simp))) b26101
    exact b26102
  exact hx_vret C hr hlk hq (Nat.le_of_ble_eq_true rfl) (Nat.le_of_ble_eq_true rfl) ⟨rfl, xb, xc, xd, sd, by unfold sp_first; rw [sp_b_r ea, sp_b_r eb, sp_b_r ec, sp_b_r ed], hsd, g26093, g26092, kF26095⟩ dX7_riversLine_54
theorem cd_X7_reachLine : yX7_reachLine.cls = RX7 ∧ yX7_reachLine.cls ≠ "java/lang/invoke/MethodHandle" ∧ yX7_reachLine.cls ≠ "java/lang/invoke/VarHandle" ∧ (parseMethodDescriptor yX7_reachLine.desc).map (fun d => d.parameters.length) = some 0 := by decide +kernel
set_option maxHeartbeats 4000000 in
theorem met_X7_reachLine (l : Launch) (D : va_G) (kk : Nat → Nat) (dE : Nat → Nat) (A : Nat → Prop) (h : hG) (rd tp rv n : Nat) (T : Nat → Int32) (s : sT) (hs : s.1 ≤ n ∧ s.2.1 ≤ s.1) (hn : n ≤ 700) (l0 l1 l2 l3 : Nat) (lv od sw li : Int32) (d0 n0 : Nat) (f0 : Nat → Option Nat) (m0 : Int32) (hn0 : n0 < 10) (ntd : tp ≠ d0) (g_rd : h rd = some (.inr (7, [.ref tp, .int (nI n), .ref rv, .int (nI s.1), .int (nI s.2.1), .int s.2.2.1, .int s.2.2.2]))) (g_tp : h tp = some (.inl (kk 2, 700, .inl T))) (g_rv : h rv = some (.inr (3, [.ref l0, .ref l1, .ref l2, .ref l3, .int lv, .int od, .int sw, .int li]))) (g_l0 : h l0 = some (.inr (13, [.int m0, .ref d0, .int (nI n0)]))) (g_d0 : h d0 = some (.inl (kk 5, 10, .inr (.inr (.inr (.inr f0)))))) : vx_Met l yX7_reachLine (ws_ yX7_reachLine cX7_reachLine 2 none) ({ frames := 8, cells := 10, slots := 70, locals := 400 } : Room) (hw_Pc D kk dE A h [.ref rd]) (hw_Qc D A (fun v h2 => v = none ∧ ∃ a b c x s2, sp_reach T n s = .inr (a, b, c, s2) ∧ (s2.1 ≤ n ∧ s2.2.1 ≤ s2.1) ∧ h x = none ∧ h2 x = some (.inr (9, [.int a, .int b, .int c])) ∧ h2 rd = some (rdc tp n rv s2) ∧ h2 l0 = some (.inr (13, [.int (m0 + 1), .ref d0, .int (nI (n0 + 1))])) ∧ h2 d0 = some (.inl (kk 5, 10, .inr (.inr (.inr (.inr (va_up f0 n0 (some x))))))) ∧ hfr h h2 [rd, l0, d0])) (hx_X D A (fun q h2 => ∃ f, sp_reach T n s = .inl f ∧ FT h2 q f ∧ hfr h h2 [rd, l0, d0])) (10) (70) A := by
  refine hx_of (RX := RX7) (lo := [some (.ref rd), none]) (by decide) rfl (Nat.le_of_ble_eq_true rfl) rfl (fun E C hnx hr hlk hq => ?_)
  have ne26103 : rd ≠ tp := hne g_rd g_tp (by simp)
  have ne26104 : rd ≠ rv := hne g_rd g_rv (by simp)
  have ne26105 : rd ≠ l0 := hne g_rd g_l0 (by simp)
  have ne26106 : rd ≠ d0 := hne g_rd g_d0 (by simp)
  have ne26107 : tp ≠ rv := hne g_tp g_rv (by simp)
  have ne26108 : tp ≠ l0 := hne g_tp g_l0 (by simp)
  have ne26109 : rv ≠ l0 := hne g_rv g_l0 (by simp)
  have ne26110 : rv ≠ d0 := hne g_rv g_d0 (by simp)
  have ne26111 : l0 ≠ d0 := hne g_l0 g_d0 (by simp)
  refine hh_new 3 C (ci := 9) (fs := [.int 0, .int 0, .int 0]) tyX9 tyX9_ok in_X9 q796 q797 q113 rfl (fun j hj => by rcases (show j = 0 ∨ j = 1 ∨ j = 2 by omega) with rfl | rfl | rfl <;> rfl) (Nat.le_of_ble_eq_true rfl) (Nat.le_of_ble_eq_true rfl) dX7_reachLine_0 rfl (fun o26112 h26113 n26115 a26116 e26114 => ?_)
  have k26117 := hu_fr0 e26114 n26115
  have g26118 := hu_at e26114
  clear e26114
  have ne26119 : rd ≠ o26112 := hn_ne g_rd n26115
  have ne26120 : tp ≠ o26112 := hn_ne g_tp n26115
  have ne26121 : rv ≠ o26112 := hn_ne g_rv n26115
  have ne26122 : l0 ≠ o26112 := hn_ne g_l0 n26115
  have ne26123 : d0 ≠ o26112 := hn_ne g_d0 n26115
  have g26124 := k26117 _ _ List.not_mem_nil g_rd
  have g26125 := k26117 _ _ List.not_mem_nil g_tp
  have g26126 := k26117 _ _ List.not_mem_nil g_rv
  have g26127 := k26117 _ _ List.not_mem_nil g_l0
  have g26128 := k26117 _ _ List.not_mem_nil g_d0
  refine ga_dup 4 C.c rfl dX7_reachLine_3 rfl ?_
  refine hh_callIN 7 C (as := []) (met_X9_init (eL E) D kk dE A _ o26112) q798 q799 q113 q800 rfl cd_X9_init rfl (Nat.le_of_ble_eq_true rfl) (Nat.le_of_ble_eq_true rfl) (Nat.le_of_ble_eq_true rfl) (Nat.le_of_ble_eq_true rfl) (Nat.le_of_ble_eq_true rfl) dX7_reachLine_4 rfl (fun v26130 h26129 p26131 => ?_)
  obtain ⟨rfl, e26132⟩ := p26131
  have e26132 := e26132.symm
  subst e26132
  refine ga_astore_n 8 C.c 1 rfl (Nat.le_of_ble_eq_true rfl) rfl dX7_reachLine_7 rfl ?_
  refine ga_aload_n 9 C.c 0 rfl rfl dX7_reachLine_8 rfl ?_
  refine hh_ldcS 11 C (tx := "to") (i := 7) (by decide +kernel) dX7_reachLine_9 rfl ?_
  have kF26133 : hfr h h26113 [rd, l0, d0] := by
    intro b e nb hb
    have m_o26112 : b ≠ o26112 := hn_ne hb n26115
    have b26134 := k26117 b e List.not_mem_nil hb
    exact b26134
  refine hx_callV 14 C hnx hlk hq (as := [.ref ((tgE dE).1 7)]) (met_X7_asks (eL E) D kk dE A _ rd tp rv n T s hs hn 7 (by decide) g26124 g26125) (fun q hq9 hp9 => by obtain ⟨f, e1, e2, e3⟩ := hp9; exact ⟨f, by unfold sp_reach; exact sp_b_l e1, e2, kF26133.tr e3 (fun x hx => hx) (fun x hx => Or.inl (by simp at hx; simp [hx]))⟩) g26124 (T := TX7) rfl (lw_V q667 q669 qs8 q103 q670) cd_X7_asks rfl (Nat.le_of_ble_eq_true rfl) (Nat.le_of_ble_eq_true rfl) (Nat.le_of_ble_eq_true rfl) (Nat.le_of_ble_eq_true rfl) (Nat.le_of_ble_eq_true rfl) dX7_reachLine_11 rfl (fun v26136 h26135 p26137 => ?_)
  obtain ⟨rfl, sa, ea, hsa, ga, ka⟩ := p26137
  have g26138 := ka _ _ (nm1 (Ne.symm ne26103)) g26125
  have g26139 := ka _ _ (nm1 (Ne.symm ne26104)) g26126
  have g26140 := ka _ _ (nm1 (Ne.symm ne26105)) g26127
  have g26141 := ka _ _ (nm1 (Ne.symm ne26106)) g26128
  have g26142 := ka _ _ (nm1 (Ne.symm ne26119)) g26118
  refine ga_aload_n 15 C.c 1 rfl rfl dX7_reachLine_14 rfl ?_
  refine ga_aload_n 16 C.c 0 rfl rfl dX7_reachLine_15 rfl ?_
  refine hh_ldcS 18 C (tx := "sea") (i := 8) (by decide +kernel) dX7_reachLine_16 rfl ?_
  refine hh_callV 21 C (as := [.ref ((tgE dE).1 8)]) (met_X7_takes (eL E) D kk dE A _ rd tp rv n T sa hsa hn 8 (by decide) ga g26138) ga (T := TX7) rfl (lw_V q671 q673 qs9 q103 q674) cd_X7_takes rfl (Nat.le_of_ble_eq_true rfl) (Nat.le_of_ble_eq_true rfl) (Nat.le_of_ble_eq_true rfl) (Nat.le_of_ble_eq_true rfl) (Nat.le_of_ble_eq_true rfl) dX7_reachLine_18 rfl (fun v26144 h26143 p26145 => ?_)
  obtain ⟨rfl, gt, kt⟩ := p26145
  have g26146 := kt _ _ (nm1 (Ne.symm ne26103)) g26138
  have g26147 := kt _ _ (nm1 (Ne.symm ne26104)) g26139
  have g26148 := kt _ _ (nm1 (Ne.symm ne26105)) g26140
  have g26149 := kt _ _ (nm1 (Ne.symm ne26106)) g26141
  have g26150 := kt _ _ (nm1 (Ne.symm ne26119)) g26142
  by_cases c26151 : sp_is T sa 8 = true
  · have e9 : sp_takes T n sa 8 = (1, tk T n sa.1) := by unfold sp_takes; rw [if_pos c26151]
    rw [e9] at gt
    rw [e9]
    have eto : sp_to T n sa = .inr (-1, tk T n sa.1) := by unfold sp_to; rw [if_pos c26151]
    obtain ⟨sb, esb⟩ : ∃ sb, sb = tk T n sa.1 := ⟨_, rfl⟩
    rw [← esb] at eto gt
    have hsb : sb.1 ≤ n ∧ sb.2.1 ≤ sb.1 := by rw [esb]; exact tk_le hsa.1
    refine ga_if_eq 28 24 C.c dX7_reachLine_21 (by decide) rfl (fun c26152 => absurd (show (1 : Int32) = 0 from c26152) (by decide)) (fun c26152 => ?_)
    refine ga_iconst 25 C.c (v := (-1)) (by decide) dX7_reachLine_24 rfl ?_
    refine ga_goto 35 C.c dX7_reachLine_25 (by decide) ?_
    refine hh_putN 38 0 C (ref := "QuotedRiver$Reach") (fs2 := [.int (-1), .int 0, .int 0]) tyX9_ok nmX9 in_X9 g26150 rfl (by decide) q804 (fun _ h9 => h9) rfl (tyX9_ok 0 (by decide)) rfl rfl (Nat.le_of_ble_eq_true rfl) rfl dX7_reachLine_35 rfl (fun h26153 e26154 => ?_)
    have k26155 := hu_fr e26154
    have g26156 := hu_at e26154
    clear e26154
    have g26157 := k26155 _ _ (nm1 ne26119) gt
    have g26158 := k26155 _ _ (nm1 ne26120) g26146
    have g26159 := k26155 _ _ (nm1 ne26121) g26147
    have g26160 := k26155 _ _ (nm1 ne26122) g26148
    have g26161 := k26155 _ _ (nm1 ne26123) g26149
    refine ga_aload_n 39 C.c 1 rfl rfl dX7_reachLine_38 rfl ?_
    refine ga_aload_n 40 C.c 0 rfl rfl dX7_reachLine_39 rfl ?_
    refine hh_ldcS 42 C (tx := "takes") (i := 9) (by decide +kernel) dX7_reachLine_40 rfl ?_
    refine ga_iconst 43 C.c (v := 1) (by decide) dX7_reachLine_42 rfl ?_
    refine ga_iconst 44 C.c (v := 5) (by decide) dX7_reachLine_43 rfl ?_
    have kF26162 : hfr h h26153 [rd, l0, d0] := by
      intro b e nb hb
      have m_o26112 : b ≠ o26112 := hn_ne hb n26115
      have b26163 := k26117 b e List.not_mem_nil hb
      have b26164 := ka b e (nm1 (nx nb (by simp))) b26163
      have b26165 := kt b e (nm1 (nx nb (by simp))) b26164
      have b26166 := k26155 b e (nm1 m_o26112) b26165
      exact b26166
    refine hx_callV 47 C hnx hlk hq (as := [.ref ((tgE dE).1 9), .int 1, .int 5]) (met_X7_number (eL E) D kk dE A _ rd tp rv n T sb hsb hn 9 (by decide) 1 5 g26157 g26158) (fun q hq9 hp9 => by obtain ⟨f, e1, e2, e3⟩ := hp9; exact ⟨f, by unfold sp_reach; rw [sp_b_r ea, sp_b_r eto]; exact sp_b_l e1, e2, kF26162.tr e3 (fun x hx => hx) (fun x hx => Or.inl (by simp at hx; simp [hx]))⟩) g26157 (T := TX7) rfl (lw_V q763 q765 qs12 q103 q766) cd_X7_number rfl (Nat.le_of_ble_eq_true rfl) (Nat.le_of_ble_eq_true rfl) (Nat.le_of_ble_eq_true rfl) (Nat.le_of_ble_eq_true rfl) (Nat.le_of_ble_eq_true rfl) dX7_reachLine_44 rfl (fun v26168 h26167 p26169 => ?_)
    obtain ⟨xc, sc, ec, rfl, hsc, gc, kc⟩ := p26169
    have g26170 := kc _ _ (nm1 (Ne.symm ne26103)) g26158
    have g26171 := kc _ _ (nm1 (Ne.symm ne26104)) g26159
    have g26172 := kc _ _ (nm1 (Ne.symm ne26105)) g26160
    have g26173 := kc _ _ (nm1 (Ne.symm ne26106)) g26161
    have g26174 := kc _ _ (nm1 (Ne.symm ne26119)) g26156
    refine hh_putN 50 1 C (ref := "QuotedRiver$Reach") (fs2 := [.int (-1), .int xc, .int 0]) tyX9_ok nmX9 in_X9 g26174 rfl (by decide) q808 (fun _ h9 => h9) rfl (tyX9_ok 1 (by decide)) rfl rfl (Nat.le_of_ble_eq_true rfl) rfl dX7_reachLine_47 rfl (fun h26175 e26176 => ?_)
    have k26177 := hu_fr e26176
    have g26178 := hu_at e26176
    clear e26176
    have g26179 := k26177 _ _ (nm1 ne26119) gc
    have g26180 := k26177 _ _ (nm1 ne26120) g26170
    have g26181 := k26177 _ _ (nm1 ne26121) g26171
    have g26182 := k26177 _ _ (nm1 ne26122) g26172
    have g26183 := k26177 _ _ (nm1 ne26123) g26173
    refine ga_aload_n 51 C.c 1 rfl rfl dX7_reachLine_50 rfl ?_
    refine ga_aload_n 52 C.c 0 rfl rfl dX7_reachLine_51 rfl ?_
    refine hh_ldcS 54 C (tx := "low") (i := 10) (by decide +kernel) dX7_reachLine_52 rfl ?_
    refine ga_iconst 55 C.c (v := 0) (by decide) dX7_reachLine_54 rfl ?_
    refine ga_bipush 57 C.c (v := 20) (by decide) dX7_reachLine_55 rfl ?_
    have kF26184 : hfr h h26175 [rd, l0, d0] := by
      intro b e nb hb
      have m_o26112 : b ≠ o26112 := hn_ne hb n26115
      have b26185 := k26117 b e List.not_mem_nil hb
      have b26186 := ka b e (nm1 (nx nb (by simp))) b26185
      have b26187 := kt b e (nm1 (nx nb (by simp))) b26186
      have b26188 := k26155 b e (nm1 m_o26112) b26187
      have b26189 := kc b e (nm1 (nx nb (by simp))) b26188
      have b26190 := k26177 b e (nm1 m_o26112) b26189
      exact b26190
    refine hx_callV 60 C hnx hlk hq (as := [.ref ((tgE dE).1 10), .int 0, .int 20]) (met_X7_number (eL E) D kk dE A _ rd tp rv n T sc hsc hn 10 (by decide) 0 20 g26179 g26180) (fun q hq9 hp9 => by obtain ⟨f, e1, e2, e3⟩ := hp9; exact ⟨f, by unfold sp_reach; rw [sp_b_r ea, sp_b_r eto, sp_b_r ec]; exact sp_b_l e1, e2, kF26184.tr e3 (fun x hx => hx) (fun x hx => Or.inl (by simp at hx; simp [hx]))⟩) g26179 (T := TX7) rfl (lw_V q763 q765 qs12 q103 q766) cd_X7_number rfl (Nat.le_of_ble_eq_true rfl) (Nat.le_of_ble_eq_true rfl) (Nat.le_of_ble_eq_true rfl) (Nat.le_of_ble_eq_true rfl) (Nat.le_of_ble_eq_true rfl) dX7_reachLine_57 rfl (fun v26192 h26191 p26193 => ?_)
    obtain ⟨xd, sd, ed, rfl, hsd, gd, kd⟩ := p26193
    have g26194 := kd _ _ (nm1 (Ne.symm ne26103)) g26180
    have g26195 := kd _ _ (nm1 (Ne.symm ne26104)) g26181
    have g26196 := kd _ _ (nm1 (Ne.symm ne26105)) g26182
    have g26197 := kd _ _ (nm1 (Ne.symm ne26106)) g26183
    have g26198 := kd _ _ (nm1 (Ne.symm ne26119)) g26178
    refine hh_putN 63 2 C (ref := "QuotedRiver$Reach") (fs2 := [.int (-1), .int xc, .int xd]) tyX9_ok nmX9 in_X9 g26198 rfl (by decide) q812 (fun _ h9 => h9) rfl (tyX9_ok 2 (by decide)) rfl rfl (Nat.le_of_ble_eq_true rfl) rfl dX7_reachLine_60 rfl (fun h26199 e26200 => ?_)
    have k26201 := hu_fr e26200
    have g26202 := hu_at e26200
    clear e26200
    have g26203 := k26201 _ _ (nm1 ne26119) gd
    have g26204 := k26201 _ _ (nm1 ne26120) g26194
    have g26205 := k26201 _ _ (nm1 ne26121) g26195
    have g26206 := k26201 _ _ (nm1 ne26122) g26196
    have g26207 := k26201 _ _ (nm1 ne26123) g26197
    refine ga_aload_n 64 C.c 0 rfl rfl dX7_reachLine_63 rfl ?_
    refine ga_get1 67 2 C.c C.ts (own := RX7) (ref := "QuotedRiver$Reader") C.ow C.k (hw_one g26203) in_X7 rfl (by decide) q638 (fun _ h9 => h9) rfl dX7_reachLine_64 rfl ?_
    refine ga_get1N 70 0 C.c C.ts (own := RX7) (ref := "QuotedRiver$Rivers") C.ow C.k (hw_one g26205) in_X2 rfl (by decide) (C.n.use q389 rfl) (fun _ h9 => h9) rfl dX7_reachLine_67 rfl ?_
    refine ga_aload_n 71 C.c 1 rfl rfl dX7_reachLine_70 rfl ?_
    have nd26208 : h o26112 = none := by
      cases c9 : h o26112 with
      | none => rfl
      | some e9 =>
        rw [n26115] at c9
        cases c9
    refine hh_callF 76 C (as := [.ref o26112]) (met_J2_add_r (eL E) D kk dE A _ l0 d0 10 n0 o26112 f0 m0 hn0 (by decide) ⟨9, _, g26202, by omega, by omega⟩ (nm1 (Ne.symm ne26122)) g26206 g26207) g26206 (T := TJ2) rfl (C.f _ (List.mem_of_getElem? (i := 0) rfl)) (lw_F q826 q829 q831 q98 q833) cdL_add rfl (Nat.le_of_ble_eq_true rfl) (Nat.le_of_ble_eq_true rfl) (Nat.le_of_ble_eq_true rfl) (Nat.le_of_ble_eq_true rfl) (Nat.le_of_ble_eq_true rfl) dX7_reachLine_71 rfl (fun v26210 h26209 p26211 => ?_)
    obtain ⟨rfl, gl, gd, ka9⟩ := p26211
    have g26212 := ka9 _ _ (nm2 ne26105 ne26106) g26203
    have g26213 := ka9 _ _ (nm2 ne26108 ntd) g26204
    have g26214 := ka9 _ _ (nm2 ne26109 ne26110) g26205
    have g26215 := ka9 _ _ (nm2 (Ne.symm ne26122) (Ne.symm ne26123)) g26202
    refine ga_pop 77 C.c rfl dX7_reachLine_76 rfl ?_
    have kF26216 : hfr h h26209 [rd, l0, d0] := by
      intro b e nb hb
      have m_o26112 : b ≠ o26112 := hn_ne hb n26115
      have b26217 := k26117 b e List.not_mem_nil hb
      have b26218 := ka b e (nm1 (nx nb (by simp))) b26217
      have b26219 := kt b e (nm1 (nx nb (by simp))) b26218
      have b26220 := k26155 b e (nm1 m_o26112) b26219
      have b26221 := kc b e (nm1 (nx nb (by simp))) b26220
      have b26222 := k26177 b e (nm1 m_o26112) b26221
      have b26223 := kd b e (nm1 (nx nb (by simp))) b26222
      have b26224 := k26201 b e (nm1 m_o26112) b26223
      have b26225 := ka9 b e (nm2 (nx nb (by simp)) (nx nb (by simp))) b26224
      exact b26225
    exact hx_vret C hr hlk hq (Nat.le_of_ble_eq_true rfl) (Nat.le_of_ble_eq_true rfl) ⟨rfl, -1, xc, xd, o26112, sd, by unfold sp_reach; rw [sp_b_r ea, sp_b_r eto, sp_b_r ec, sp_b_r ed], hsd, nd26208, g26215, g26212, gl, gd, kF26216⟩ dX7_reachLine_77
  · have e9 : sp_takes T n sa 8 = (0, sa) := by unfold sp_takes; rw [if_neg c26151]
    rw [e9] at gt
    rw [e9]
    refine ga_if_eq 28 24 C.c dX7_reachLine_21 (by decide) rfl (fun c26226 => ?_) (fun c26226 => absurd rfl c26226)
    refine ga_aload_n 29 C.c 0 rfl rfl dX7_reachLine_28 rfl ?_
    refine ga_iconst 30 C.c (v := 0) (by decide) dX7_reachLine_29 rfl ?_
    refine ga_bipush 32 C.c (v := 9) (by decide) dX7_reachLine_30 rfl ?_
    have kF26227 : hfr h h26143 [rd, l0, d0] := by
      intro b e nb hb
      have m_o26112 : b ≠ o26112 := hn_ne hb n26115
      have b26228 := k26117 b e List.not_mem_nil hb
      have b26229 := ka b e (nm1 (nx nb (by simp))) b26228
      have b26230 := kt b e (nm1 (nx nb (by simp))) b26229
      exact b26230
    refine hx_callV 35 C hnx hlk hq (as := [.int 0, .int 9]) (met_X7_number_2 (eL E) D kk dE A _ rd tp rv n T sa hsa hn 0 9 gt g26146) (fun q hq9 hp9 => by obtain ⟨f, e1, e2, e3⟩ := hp9; exact ⟨f, by unfold sp_reach; rw [sp_b_r ea]; refine sp_b_l ?_; unfold sp_to; rw [if_neg c26151]; exact e1, e2, kF26227.tr e3 (fun x hx => hx) (fun x hx => Or.inl (by simp at hx; simp [hx]))⟩) gt (T := TX7) rfl (lw_V q767 q769 qs13 q103 q770) cd_X7_number_2 rfl (Nat.le_of_ble_eq_true rfl) (Nat.le_of_ble_eq_true rfl) (Nat.le_of_ble_eq_true rfl) (Nat.le_of_ble_eq_true rfl) (Nat.le_of_ble_eq_true rfl) dX7_reachLine_32 rfl (fun v26232 h26231 p26233 => ?_)
    obtain ⟨xb, sb, eb, rfl, hsb, gb, kb⟩ := p26233
    have g26234 := kb _ _ (nm1 (Ne.symm ne26103)) g26146
    have g26235 := kb _ _ (nm1 (Ne.symm ne26104)) g26147
    have g26236 := kb _ _ (nm1 (Ne.symm ne26105)) g26148
    have g26237 := kb _ _ (nm1 (Ne.symm ne26106)) g26149
    have g26238 := kb _ _ (nm1 (Ne.symm ne26119)) g26150
    have eto : sp_to T n sa = .inr (xb, sb) := by unfold sp_to; rw [if_neg c26151]; exact eb
    refine hh_putN 38 0 C (ref := "QuotedRiver$Reach") (fs2 := [.int xb, .int 0, .int 0]) tyX9_ok nmX9 in_X9 g26238 rfl (by decide) q804 (fun _ h9 => h9) rfl (tyX9_ok 0 (by decide)) rfl rfl (Nat.le_of_ble_eq_true rfl) rfl dX7_reachLine_35 rfl (fun h26239 e26240 => ?_)
    have k26241 := hu_fr e26240
    have g26242 := hu_at e26240
    clear e26240
    have g26243 := k26241 _ _ (nm1 ne26119) gb
    have g26244 := k26241 _ _ (nm1 ne26120) g26234
    have g26245 := k26241 _ _ (nm1 ne26121) g26235
    have g26246 := k26241 _ _ (nm1 ne26122) g26236
    have g26247 := k26241 _ _ (nm1 ne26123) g26237
    refine ga_aload_n 39 C.c 1 rfl rfl dX7_reachLine_38 rfl ?_
    refine ga_aload_n 40 C.c 0 rfl rfl dX7_reachLine_39 rfl ?_
    refine hh_ldcS 42 C (tx := "takes") (i := 9) (by decide +kernel) dX7_reachLine_40 rfl ?_
    refine ga_iconst 43 C.c (v := 1) (by decide) dX7_reachLine_42 rfl ?_
    refine ga_iconst 44 C.c (v := 5) (by decide) dX7_reachLine_43 rfl ?_
    have kF26248 : hfr h h26239 [rd, l0, d0] := by
      intro b e nb hb
      have m_o26112 : b ≠ o26112 := hn_ne hb n26115
      have b26249 := k26117 b e List.not_mem_nil hb
      have b26250 := ka b e (nm1 (nx nb (by simp))) b26249
      have b26251 := kt b e (nm1 (nx nb (by simp))) b26250
      have b26252 := kb b e (nm1 (nx nb (by simp))) b26251
      have b26253 := k26241 b e (nm1 m_o26112) b26252
      exact b26253
    refine hx_callV 47 C hnx hlk hq (as := [.ref ((tgE dE).1 9), .int 1, .int 5]) (met_X7_number (eL E) D kk dE A _ rd tp rv n T sb hsb hn 9 (by decide) 1 5 g26243 g26244) (fun q hq9 hp9 => by obtain ⟨f, e1, e2, e3⟩ := hp9; exact ⟨f, by unfold sp_reach; rw [sp_b_r ea, sp_b_r eto]; exact sp_b_l e1, e2, kF26248.tr e3 (fun x hx => hx) (fun x hx => Or.inl (by simp at hx; simp [hx]))⟩) g26243 (T := TX7) rfl (lw_V q763 q765 qs12 q103 q766) cd_X7_number rfl (Nat.le_of_ble_eq_true rfl) (Nat.le_of_ble_eq_true rfl) (Nat.le_of_ble_eq_true rfl) (Nat.le_of_ble_eq_true rfl) (Nat.le_of_ble_eq_true rfl) dX7_reachLine_44 rfl (fun v26255 h26254 p26256 => ?_)
    obtain ⟨xc, sc, ec, rfl, hsc, gc, kc⟩ := p26256
    have g26257 := kc _ _ (nm1 (Ne.symm ne26103)) g26244
    have g26258 := kc _ _ (nm1 (Ne.symm ne26104)) g26245
    have g26259 := kc _ _ (nm1 (Ne.symm ne26105)) g26246
    have g26260 := kc _ _ (nm1 (Ne.symm ne26106)) g26247
    have g26261 := kc _ _ (nm1 (Ne.symm ne26119)) g26242
    refine hh_putN 50 1 C (ref := "QuotedRiver$Reach") (fs2 := [.int xb, .int xc, .int 0]) tyX9_ok nmX9 in_X9 g26261 rfl (by decide) q808 (fun _ h9 => h9) rfl (tyX9_ok 1 (by decide)) rfl rfl (Nat.le_of_ble_eq_true rfl) rfl dX7_reachLine_47 rfl (fun h26262 e26263 => ?_)
    have k26264 := hu_fr e26263
    have g26265 := hu_at e26263
    clear e26263
    have g26266 := k26264 _ _ (nm1 ne26119) gc
    have g26267 := k26264 _ _ (nm1 ne26120) g26257
    have g26268 := k26264 _ _ (nm1 ne26121) g26258
    have g26269 := k26264 _ _ (nm1 ne26122) g26259
    have g26270 := k26264 _ _ (nm1 ne26123) g26260
    refine ga_aload_n 51 C.c 1 rfl rfl dX7_reachLine_50 rfl ?_
    refine ga_aload_n 52 C.c 0 rfl rfl dX7_reachLine_51 rfl ?_
    refine hh_ldcS 54 C (tx := "low") (i := 10) (by decide +kernel) dX7_reachLine_52 rfl ?_
    refine ga_iconst 55 C.c (v := 0) (by decide) dX7_reachLine_54 rfl ?_
    refine ga_bipush 57 C.c (v := 20) (by decide) dX7_reachLine_55 rfl ?_
    have kF26271 : hfr h h26262 [rd, l0, d0] := by
      intro b e nb hb
      have m_o26112 : b ≠ o26112 := hn_ne hb n26115
      have b26272 := k26117 b e List.not_mem_nil hb
      have b26273 := ka b e (nm1 (nx nb (by simp))) b26272
      have b26274 := kt b e (nm1 (nx nb (by simp))) b26273
      have b26275 := kb b e (nm1 (nx nb (by simp))) b26274
      have b26276 := k26241 b e (nm1 m_o26112) b26275
      have b26277 := kc b e (nm1 (nx nb (by simp))) b26276
      have b26278 := k26264 b e (nm1 m_o26112) b26277
      exact b26278
    refine hx_callV 60 C hnx hlk hq (as := [.ref ((tgE dE).1 10), .int 0, .int 20]) (met_X7_number (eL E) D kk dE A _ rd tp rv n T sc hsc hn 10 (by decide) 0 20 g26266 g26267) (fun q hq9 hp9 => by obtain ⟨f, e1, e2, e3⟩ := hp9; exact ⟨f, by unfold sp_reach; rw [sp_b_r ea, sp_b_r eto, sp_b_r ec]; exact sp_b_l e1, e2, kF26271.tr e3 (fun x hx => hx) (fun x hx => Or.inl (by simp at hx; simp [hx]))⟩) g26266 (T := TX7) rfl (lw_V q763 q765 qs12 q103 q766) cd_X7_number rfl (Nat.le_of_ble_eq_true rfl) (Nat.le_of_ble_eq_true rfl) (Nat.le_of_ble_eq_true rfl) (Nat.le_of_ble_eq_true rfl) (Nat.le_of_ble_eq_true rfl) dX7_reachLine_57 rfl (fun v26280 h26279 p26281 => ?_)
    obtain ⟨xd, sd, ed, rfl, hsd, gd, kd⟩ := p26281
    have g26282 := kd _ _ (nm1 (Ne.symm ne26103)) g26267
    have g26283 := kd _ _ (nm1 (Ne.symm ne26104)) g26268
    have g26284 := kd _ _ (nm1 (Ne.symm ne26105)) g26269
    have g26285 := kd _ _ (nm1 (Ne.symm ne26106)) g26270
    have g26286 := kd _ _ (nm1 (Ne.symm ne26119)) g26265
    refine hh_putN 63 2 C (ref := "QuotedRiver$Reach") (fs2 := [.int xb, .int xc, .int xd]) tyX9_ok nmX9 in_X9 g26286 rfl (by decide) q812 (fun _ h9 => h9) rfl (tyX9_ok 2 (by decide)) rfl rfl (Nat.le_of_ble_eq_true rfl) rfl dX7_reachLine_60 rfl (fun h26287 e26288 => ?_)
    have k26289 := hu_fr e26288
    have g26290 := hu_at e26288
    clear e26288
    have g26291 := k26289 _ _ (nm1 ne26119) gd
    have g26292 := k26289 _ _ (nm1 ne26120) g26282
    have g26293 := k26289 _ _ (nm1 ne26121) g26283
    have g26294 := k26289 _ _ (nm1 ne26122) g26284
    have g26295 := k26289 _ _ (nm1 ne26123) g26285
    refine ga_aload_n 64 C.c 0 rfl rfl dX7_reachLine_63 rfl ?_
    refine ga_get1 67 2 C.c C.ts (own := RX7) (ref := "QuotedRiver$Reader") C.ow C.k (hw_one g26291) in_X7 rfl (by decide) q638 (fun _ h9 => h9) rfl dX7_reachLine_64 rfl ?_
    refine ga_get1N 70 0 C.c C.ts (own := RX7) (ref := "QuotedRiver$Rivers") C.ow C.k (hw_one g26293) in_X2 rfl (by decide) (C.n.use q389 rfl) (fun _ h9 => h9) rfl dX7_reachLine_67 rfl ?_
    refine ga_aload_n 71 C.c 1 rfl rfl dX7_reachLine_70 rfl ?_
    have nd26296 : h o26112 = none := by
      cases c9 : h o26112 with
      | none => rfl
      | some e9 =>
        rw [n26115] at c9
        cases c9
    refine hh_callF 76 C (as := [.ref o26112]) (met_J2_add_r (eL E) D kk dE A _ l0 d0 10 n0 o26112 f0 m0 hn0 (by decide) ⟨9, _, g26290, by omega, by omega⟩ (nm1 (Ne.symm ne26122)) g26294 g26295) g26294 (T := TJ2) rfl (C.f _ (List.mem_of_getElem? (i := 0) rfl)) (lw_F q826 q829 q831 q98 q833) cdL_add rfl (Nat.le_of_ble_eq_true rfl) (Nat.le_of_ble_eq_true rfl) (Nat.le_of_ble_eq_true rfl) (Nat.le_of_ble_eq_true rfl) (Nat.le_of_ble_eq_true rfl) dX7_reachLine_71 rfl (fun v26298 h26297 p26299 => ?_)
    obtain ⟨rfl, gl, gd, ka9⟩ := p26299
    have g26300 := ka9 _ _ (nm2 ne26105 ne26106) g26291
    have g26301 := ka9 _ _ (nm2 ne26108 ntd) g26292
    have g26302 := ka9 _ _ (nm2 ne26109 ne26110) g26293
    have g26303 := ka9 _ _ (nm2 (Ne.symm ne26122) (Ne.symm ne26123)) g26290
    refine ga_pop 77 C.c rfl dX7_reachLine_76 rfl ?_
    have kF26304 : hfr h h26297 [rd, l0, d0] := by
      intro b e nb hb
      have m_o26112 : b ≠ o26112 := hn_ne hb n26115
      have b26305 := k26117 b e List.not_mem_nil hb
      have b26306 := ka b e (nm1 (nx nb (by simp))) b26305
      have b26307 := kt b e (nm1 (nx nb (by simp))) b26306
      have b26308 := kb b e (nm1 (nx nb (by simp))) b26307
      have b26309 := k26241 b e (nm1 m_o26112) b26308
      have b26310 := kc b e (nm1 (nx nb (by simp))) b26309
      have b26311 := k26264 b e (nm1 m_o26112) b26310
      have b26312 := kd b e (nm1 (nx nb (by simp))) b26311
      have b26313 := k26289 b e (nm1 m_o26112) b26312
      have b26314 := ka9 b e (nm2 (nx nb (by simp)) (nx nb (by simp))) b26313
      exact b26314
    exact hx_vret C hr hlk hq (Nat.le_of_ble_eq_true rfl) (Nat.le_of_ble_eq_true rfl) ⟨rfl, xb, xc, xd, o26112, sd, by unfold sp_reach; rw [sp_b_r ea, sp_b_r eto, sp_b_r ec, sp_b_r ed], hsd, nd26296, g26303, g26300, gl, gd, kF26304⟩ dX7_reachLine_77
theorem cd_X7_joinLine : yX7_joinLine.cls = RX7 ∧ yX7_joinLine.cls ≠ "java/lang/invoke/MethodHandle" ∧ yX7_joinLine.cls ≠ "java/lang/invoke/VarHandle" ∧ (parseMethodDescriptor yX7_joinLine.desc).map (fun d => d.parameters.length) = some 0 := by decide +kernel
set_option maxHeartbeats 4000000 in
theorem met_X7_joinLine (l : Launch) (D : va_G) (kk : Nat → Nat) (dE : Nat → Nat) (A : Nat → Prop) (h : hG) (rd tp rv n : Nat) (T : Nat → Int32) (s : sT) (hs : s.1 ≤ n ∧ s.2.1 ≤ s.1) (hn : n ≤ 700) (l0 l1 l2 l3 : Nat) (lv od sw li : Int32) (d0 d1 n0 n1 : Nat) (f1 : Nat → Option Nat) (m0 m1 : Int32) (hn1 : n1 < 5) (ntd : tp ≠ d1) (n01 : l0 ≠ l1) (g_rd : h rd = some (.inr (7, [.ref tp, .int (nI n), .ref rv, .int (nI s.1), .int (nI s.2.1), .int s.2.2.1, .int s.2.2.2]))) (g_tp : h tp = some (.inl (kk 2, 700, .inl T))) (g_rv : h rv = some (.inr (3, [.ref l0, .ref l1, .ref l2, .ref l3, .int lv, .int od, .int sw, .int li]))) (g_l0 : h l0 = some (.inr (13, [.int m0, .ref d0, .int (nI n0)]))) (g_l1 : h l1 = some (.inr (13, [.int m1, .ref d1, .int (nI n1)]))) (g_d1 : h d1 = some (.inl (kk 5, 5, .inr (.inr (.inr (.inr f1)))))) : vx_Met l yX7_joinLine (ws_ yX7_joinLine cX7_joinLine 2 none) ({ frames := 9, cells := 10, slots := 70, locals := 420 } : Room) (hw_Pc D kk dE A h [.ref rd]) (hw_Qc D A (fun v h2 => v = none ∧ ∃ a b c d x s2, sp_join T n s (nI n0) = .inr (a, b, c, d, s2) ∧ (s2.1 ≤ n ∧ s2.2.1 ≤ s2.1) ∧ h x = none ∧ h2 x = some (.inr (10, [.int a, .int b, .int c, .int d])) ∧ h2 rd = some (rdc tp n rv s2) ∧ h2 l1 = some (.inr (13, [.int (m1 + 1), .ref d1, .int (nI (n1 + 1))])) ∧ h2 d1 = some (.inl (kk 5, 5, .inr (.inr (.inr (.inr (va_up f1 n1 (some x))))))) ∧ hfr h h2 [rd, l1, d1])) (hx_X D A (fun q h2 => ∃ f, sp_join T n s (nI n0) = .inl f ∧ FT h2 q f ∧ hfr h h2 [rd, l1, d1])) (10) (70) A := by
  refine hx_of (RX := RX7) (lo := [some (.ref rd), none]) (by decide) rfl (Nat.le_of_ble_eq_true rfl) rfl (fun E C hnx hr hlk hq => ?_)
  have ne26315 : rd ≠ tp := hne g_rd g_tp (by simp)
  have ne26316 : rd ≠ rv := hne g_rd g_rv (by simp)
  have ne26317 : rd ≠ l0 := hne g_rd g_l0 (by simp)
  have ne26318 : rd ≠ l1 := hne g_rd g_l1 (by simp)
  have ne26319 : rd ≠ d1 := hne g_rd g_d1 (by simp)
  have ne26320 : tp ≠ rv := hne g_tp g_rv (by simp)
  have ne26321 : tp ≠ l0 := hne g_tp g_l0 (by simp)
  have ne26322 : tp ≠ l1 := hne g_tp g_l1 (by simp)
  have ne26323 : rv ≠ l0 := hne g_rv g_l0 (by simp)
  have ne26324 : rv ≠ l1 := hne g_rv g_l1 (by simp)
  have ne26325 : rv ≠ d1 := hne g_rv g_d1 (by simp)
  have ne26326 : l0 ≠ d1 := hne g_l0 g_d1 (by simp)
  have ne26327 : l1 ≠ d1 := hne g_l1 g_d1 (by simp)
  refine hh_new 3 C (ci := 10) (fs := [.int 0, .int 0, .int 0, .int 0]) tyX10 tyX10_ok in_X10 q895 q896 q117 rfl (fun j hj => by rcases (show j = 0 ∨ j = 1 ∨ j = 2 ∨ j = 3 by omega) with rfl | rfl | rfl | rfl <;> rfl) (Nat.le_of_ble_eq_true rfl) (Nat.le_of_ble_eq_true rfl) dX7_joinLine_0 rfl (fun o26328 h26329 n26331 a26332 e26330 => ?_)
  have k26333 := hu_fr0 e26330 n26331
  have g26334 := hu_at e26330
  clear e26330
  have ne26335 : rd ≠ o26328 := hn_ne g_rd n26331
  have ne26336 : tp ≠ o26328 := hn_ne g_tp n26331
  have ne26337 : rv ≠ o26328 := hn_ne g_rv n26331
  have ne26338 : l0 ≠ o26328 := hn_ne g_l0 n26331
  have ne26339 : l1 ≠ o26328 := hn_ne g_l1 n26331
  have ne26340 : d1 ≠ o26328 := hn_ne g_d1 n26331
  have g26341 := k26333 _ _ List.not_mem_nil g_rd
  have g26342 := k26333 _ _ List.not_mem_nil g_tp
  have g26343 := k26333 _ _ List.not_mem_nil g_rv
  have g26344 := k26333 _ _ List.not_mem_nil g_l0
  have g26345 := k26333 _ _ List.not_mem_nil g_l1
  have g26346 := k26333 _ _ List.not_mem_nil g_d1
  refine ga_dup 4 C.c rfl dX7_joinLine_3 rfl ?_
  refine hh_callIN 7 C (as := []) (met_X10_init (eL E) D kk dE A _ o26328) q897 q898 q117 q899 rfl cd_X10_init rfl (Nat.le_of_ble_eq_true rfl) (Nat.le_of_ble_eq_true rfl) (Nat.le_of_ble_eq_true rfl) (Nat.le_of_ble_eq_true rfl) (Nat.le_of_ble_eq_true rfl) dX7_joinLine_4 rfl (fun v26348 h26347 p26349 => ?_)
  obtain ⟨rfl, e26350⟩ := p26349
  have e26350 := e26350.symm
  subst e26350
  refine ga_astore_n 8 C.c 1 rfl (Nat.le_of_ble_eq_true rfl) rfl dX7_joinLine_7 rfl ?_
  refine ga_aload_n 9 C.c 1 rfl rfl dX7_joinLine_8 rfl ?_
  refine ga_aload_n 10 C.c 0 rfl rfl dX7_joinLine_9 rfl ?_
  have kF26351 : hfr h h26329 [rd, l1, d1] := by
    intro b e nb hb
    have m_o26328 : b ≠ o26328 := hn_ne hb n26331
    have b26352 := k26333 b e List.not_mem_nil hb
    exact b26352
  refine hx_callV 13 C hnx hlk hq (as := []) (met_X7_reach (eL E) D kk dE A _ rd tp rv n T s hs hn l0 l1 l2 l3 lv od sw li d0 n0 m0 g26341 g26342 g26343 g26344) (fun q hq9 hp9 => by obtain ⟨f, e1, e2, e3⟩ := hp9; exact ⟨f, by unfold sp_join; exact sp_b_l e1, e2, kF26351.tr e3 (fun x hx => hx) (fun x hx => Or.inl (by simp at hx; simp [hx]))⟩) g26341 (T := TX7) rfl (lw_V q922 q924 qs21 q103 q925) cd_X7_reach rfl (Nat.le_of_ble_eq_true rfl) (Nat.le_of_ble_eq_true rfl) (Nat.le_of_ble_eq_true rfl) (Nat.le_of_ble_eq_true rfl) (Nat.le_of_ble_eq_true rfl) dX7_joinLine_10 rfl (fun v26354 h26353 p26355 => ?_)
  obtain ⟨xa, sa, ea, rfl, hsa, ga, ka⟩ := p26355
  have g26356 := ka _ _ (nm1 (Ne.symm ne26315)) g26342
  have g26357 := ka _ _ (nm1 (Ne.symm ne26316)) g26343
  have g26358 := ka _ _ (nm1 (Ne.symm ne26317)) g26344
  have g26359 := ka _ _ (nm1 (Ne.symm ne26318)) g26345
  have g26360 := ka _ _ (nm1 (Ne.symm ne26319)) g26346
  have g26361 := ka _ _ (nm1 (Ne.symm ne26335)) g26334
  refine hh_putN 16 0 C (ref := "QuotedRiver$Join") (fs2 := [.int xa, .int 0, .int 0, .int 0]) tyX10_ok nmX10 in_X10 g26361 rfl (by decide) q902 (fun _ h9 => h9) rfl (tyX10_ok 0 (by decide)) rfl rfl (Nat.le_of_ble_eq_true rfl) rfl dX7_joinLine_13 rfl (fun h26362 e26363 => ?_)
  have k26364 := hu_fr e26363
  have g26365 := hu_at e26363
  clear e26363
  have g26366 := k26364 _ _ (nm1 ne26335) ga
  have g26367 := k26364 _ _ (nm1 ne26336) g26356
  have g26368 := k26364 _ _ (nm1 ne26337) g26357
  have g26369 := k26364 _ _ (nm1 ne26338) g26358
  have g26370 := k26364 _ _ (nm1 ne26339) g26359
  have g26371 := k26364 _ _ (nm1 ne26340) g26360
  refine ga_aload_n 17 C.c 0 rfl rfl dX7_joinLine_16 rfl ?_
  refine hh_ldcS 19 C (tx := "to") (i := 7) (by decide +kernel) dX7_joinLine_17 rfl ?_
  have kF26372 : hfr h h26362 [rd, l1, d1] := by
    intro b e nb hb
    have m_o26328 : b ≠ o26328 := hn_ne hb n26331
    have b26373 := k26333 b e List.not_mem_nil hb
    have b26374 := ka b e (nm1 (nx nb (by simp))) b26373
    have b26375 := k26364 b e (nm1 m_o26328) b26374
    exact b26375
  refine hx_callV 22 C hnx hlk hq (as := [.ref ((tgE dE).1 7)]) (met_X7_asks (eL E) D kk dE A _ rd tp rv n T sa hsa hn 7 (by decide) g26366 g26367) (fun q hq9 hp9 => by obtain ⟨f, e1, e2, e3⟩ := hp9; exact ⟨f, by unfold sp_join; rw [sp_b_r ea]; exact sp_b_l e1, e2, kF26372.tr e3 (fun x hx => hx) (fun x hx => Or.inl (by simp at hx; simp [hx]))⟩) g26366 (T := TX7) rfl (lw_V q667 q669 qs8 q103 q670) cd_X7_asks rfl (Nat.le_of_ble_eq_true rfl) (Nat.le_of_ble_eq_true rfl) (Nat.le_of_ble_eq_true rfl) (Nat.le_of_ble_eq_true rfl) (Nat.le_of_ble_eq_true rfl) dX7_joinLine_19 rfl (fun v26377 h26376 p26378 => ?_)
  obtain ⟨rfl, sb, eb, hsb, gb, kb⟩ := p26378
  have g26379 := kb _ _ (nm1 (Ne.symm ne26315)) g26367
  have g26380 := kb _ _ (nm1 (Ne.symm ne26316)) g26368
  have g26381 := kb _ _ (nm1 (Ne.symm ne26317)) g26369
  have g26382 := kb _ _ (nm1 (Ne.symm ne26318)) g26370
  have g26383 := kb _ _ (nm1 (Ne.symm ne26319)) g26371
  have g26384 := kb _ _ (nm1 (Ne.symm ne26335)) g26365
  refine ga_aload_n 23 C.c 1 rfl rfl dX7_joinLine_22 rfl ?_
  refine ga_aload_n 24 C.c 0 rfl rfl dX7_joinLine_23 rfl ?_
  have kF26385 : hfr h h26376 [rd, l1, d1] := by
    intro b e nb hb
    have m_o26328 : b ≠ o26328 := hn_ne hb n26331
    have b26386 := k26333 b e List.not_mem_nil hb
    have b26387 := ka b e (nm1 (nx nb (by simp))) b26386
    have b26388 := k26364 b e (nm1 m_o26328) b26387
    have b26389 := kb b e (nm1 (nx nb (by simp))) b26388
    exact b26389
  refine hx_callV 27 C hnx hlk hq (as := []) (met_X7_reach (eL E) D kk dE A _ rd tp rv n T sb hsb hn l0 l1 l2 l3 lv od sw li d0 n0 m0 gb g26379 g26380 g26381) (fun q hq9 hp9 => by obtain ⟨f, e1, e2, e3⟩ := hp9; exact ⟨f, by unfold sp_join; rw [sp_b_r ea, sp_b_r eb]; exact sp_b_l e1, e2, kF26385.tr e3 (fun x hx => hx) (fun x hx => Or.inl (by simp at hx; simp [hx]))⟩) gb (T := TX7) rfl (lw_V q922 q924 qs21 q103 q925) cd_X7_reach rfl (Nat.le_of_ble_eq_true rfl) (Nat.le_of_ble_eq_true rfl) (Nat.le_of_ble_eq_true rfl) (Nat.le_of_ble_eq_true rfl) (Nat.le_of_ble_eq_true rfl) dX7_joinLine_24 rfl (fun v26391 h26390 p26392 => ?_)
  obtain ⟨xc, sc, ec, rfl, hsc, gc, kc⟩ := p26392
  have g26393 := kc _ _ (nm1 (Ne.symm ne26315)) g26379
  have g26394 := kc _ _ (nm1 (Ne.symm ne26316)) g26380
  have g26395 := kc _ _ (nm1 (Ne.symm ne26317)) g26381
  have g26396 := kc _ _ (nm1 (Ne.symm ne26318)) g26382
  have g26397 := kc _ _ (nm1 (Ne.symm ne26319)) g26383
  have g26398 := kc _ _ (nm1 (Ne.symm ne26335)) g26384
  refine hh_putN 30 1 C (ref := "QuotedRiver$Join") (fs2 := [.int xa, .int xc, .int 0, .int 0]) tyX10_ok nmX10 in_X10 g26398 rfl (by decide) q905 (fun _ h9 => h9) rfl (tyX10_ok 1 (by decide)) rfl rfl (Nat.le_of_ble_eq_true rfl) rfl dX7_joinLine_27 rfl (fun h26399 e26400 => ?_)
  have k26401 := hu_fr e26400
  have g26402 := hu_at e26400
  clear e26400
  have g26403 := k26401 _ _ (nm1 ne26335) gc
  have g26404 := k26401 _ _ (nm1 ne26336) g26393
  have g26405 := k26401 _ _ (nm1 ne26337) g26394
  have g26406 := k26401 _ _ (nm1 ne26338) g26395
  have g26407 := k26401 _ _ (nm1 ne26339) g26396
  have g26408 := k26401 _ _ (nm1 ne26340) g26397
  refine ga_aload_n 31 C.c 1 rfl rfl dX7_joinLine_30 rfl ?_
  refine ga_aload_n 32 C.c 0 rfl rfl dX7_joinLine_31 rfl ?_
  refine hh_ldcS 34 C (tx := "each") (i := 11) (by decide +kernel) dX7_joinLine_32 rfl ?_
  refine ga_iconst 35 C.c (v := 1) (by decide) dX7_joinLine_34 rfl ?_
  refine ga_bipush 37 C.c (v := 9) (by decide) dX7_joinLine_35 rfl ?_
  have kF26409 : hfr h h26399 [rd, l1, d1] := by
    intro b e nb hb
    have m_o26328 : b ≠ o26328 := hn_ne hb n26331
    have b26410 := k26333 b e List.not_mem_nil hb
    have b26411 := ka b e (nm1 (nx nb (by simp))) b26410
    have b26412 := k26364 b e (nm1 m_o26328) b26411
    have b26413 := kb b e (nm1 (nx nb (by simp))) b26412
    have b26414 := kc b e (nm1 (nx nb (by simp))) b26413
    have b26415 := k26401 b e (nm1 m_o26328) b26414
    exact b26415
  refine hx_callV 40 C hnx hlk hq (as := [.ref ((tgE dE).1 11), .int 1, .int 9]) (met_X7_number (eL E) D kk dE A _ rd tp rv n T sc hsc hn 11 (by decide) 1 9 g26403 g26404) (fun q hq9 hp9 => by obtain ⟨f, e1, e2, e3⟩ := hp9; exact ⟨f, by unfold sp_join; rw [sp_b_r ea, sp_b_r eb, sp_b_r ec]; exact sp_b_l e1, e2, kF26409.tr e3 (fun x hx => hx) (fun x hx => Or.inl (by simp at hx; simp [hx]))⟩) g26403 (T := TX7) rfl (lw_V q763 q765 qs12 q103 q766) cd_X7_number rfl (Nat.le_of_ble_eq_true rfl) (Nat.le_of_ble_eq_true rfl) (Nat.le_of_ble_eq_true rfl) (Nat.le_of_ble_eq_true rfl) (Nat.le_of_ble_eq_true rfl) dX7_joinLine_37 rfl (fun v26417 h26416 p26418 => ?_)
  obtain ⟨xd, sd, ed, rfl, hsd, gd, kd⟩ := p26418
  have g26419 := kd _ _ (nm1 (Ne.symm ne26315)) g26404
  have g26420 := kd _ _ (nm1 (Ne.symm ne26316)) g26405
  have g26421 := kd _ _ (nm1 (Ne.symm ne26317)) g26406
  have g26422 := kd _ _ (nm1 (Ne.symm ne26318)) g26407
  have g26423 := kd _ _ (nm1 (Ne.symm ne26319)) g26408
  have g26424 := kd _ _ (nm1 (Ne.symm ne26335)) g26402
  refine hh_putN 43 2 C (ref := "QuotedRiver$Join") (fs2 := [.int xa, .int xc, .int xd, .int 0]) tyX10_ok nmX10 in_X10 g26424 rfl (by decide) q908 (fun _ h9 => h9) rfl (tyX10_ok 2 (by decide)) rfl rfl (Nat.le_of_ble_eq_true rfl) rfl dX7_joinLine_40 rfl (fun h26425 e26426 => ?_)
  have k26427 := hu_fr e26426
  have g26428 := hu_at e26426
  clear e26426
  have g26429 := k26427 _ _ (nm1 ne26335) gd
  have g26430 := k26427 _ _ (nm1 ne26336) g26419
  have g26431 := k26427 _ _ (nm1 ne26337) g26420
  have g26432 := k26427 _ _ (nm1 ne26338) g26421
  have g26433 := k26427 _ _ (nm1 ne26339) g26422
  have g26434 := k26427 _ _ (nm1 ne26340) g26423
  refine ga_aload_n 44 C.c 1 rfl rfl dX7_joinLine_43 rfl ?_
  refine ga_aload_n 45 C.c 0 rfl rfl dX7_joinLine_44 rfl ?_
  refine hh_ldcS 47 C (tx := "at") (i := 12) (by decide +kernel) dX7_joinLine_45 rfl ?_
  refine ga_iconst 48 C.c (v := 0) (by decide) dX7_joinLine_47 rfl ?_
  refine ga_aload_n 49 C.c 1 rfl rfl dX7_joinLine_48 rfl ?_
  refine ga_get1N 52 2 C.c C.ts (own := RX7) (ref := "QuotedRiver$Join") C.ow C.k (hw_one g26428) in_X10 rfl (by decide) (C.n.use q908 rfl) (fun _ h9 => h9) rfl dX7_joinLine_49 rfl ?_
  refine ga_iconst 53 C.c (v := 1) (by decide) dX7_joinLine_52 rfl ?_
  refine ga_isub 54 C.c dX7_joinLine_53 rfl ?_
  have kF26435 : hfr h h26425 [rd, l1, d1] := by
    intro b e nb hb
    have m_o26328 : b ≠ o26328 := hn_ne hb n26331
    have b26436 := k26333 b e List.not_mem_nil hb
    have b26437 := ka b e (nm1 (nx nb (by simp))) b26436
    have b26438 := k26364 b e (nm1 m_o26328) b26437
    have b26439 := kb b e (nm1 (nx nb (by simp))) b26438
    have b26440 := kc b e (nm1 (nx nb (by simp))) b26439
    have b26441 := k26401 b e (nm1 m_o26328) b26440
    have b26442 := kd b e (nm1 (nx nb (by simp))) b26441
    have b26443 := k26427 b e (nm1 m_o26328) b26442
    exact b26443
  refine hx_callV 57 C hnx hlk hq (as := [.ref ((tgE dE).1 12), .int 0, .int (xd - 1)]) (met_X7_number (eL E) D kk dE A _ rd tp rv n T sd hsd hn 12 (by decide) 0 (xd - 1) g26429 g26430) (fun q hq9 hp9 => by obtain ⟨f, e1, e2, e3⟩ := hp9; exact ⟨f, by unfold sp_join; rw [sp_b_r ea, sp_b_r eb, sp_b_r ec, sp_b_r ed]; exact sp_b_l e1, e2, kF26435.tr e3 (fun x hx => hx) (fun x hx => Or.inl (by simp at hx; simp [hx]))⟩) g26429 (T := TX7) rfl (lw_V q763 q765 qs12 q103 q766) cd_X7_number rfl (Nat.le_of_ble_eq_true rfl) (Nat.le_of_ble_eq_true rfl) (Nat.le_of_ble_eq_true rfl) (Nat.le_of_ble_eq_true rfl) (Nat.le_of_ble_eq_true rfl) dX7_joinLine_54 rfl (fun v26445 h26444 p26446 => ?_)
  obtain ⟨xf, sf, ef, rfl, hsf, gf, kf⟩ := p26446
  have g26447 := kf _ _ (nm1 (Ne.symm ne26315)) g26430
  have g26448 := kf _ _ (nm1 (Ne.symm ne26316)) g26431
  have g26449 := kf _ _ (nm1 (Ne.symm ne26317)) g26432
  have g26450 := kf _ _ (nm1 (Ne.symm ne26318)) g26433
  have g26451 := kf _ _ (nm1 (Ne.symm ne26319)) g26434
  have g26452 := kf _ _ (nm1 (Ne.symm ne26335)) g26428
  refine hh_putN 60 3 C (ref := "QuotedRiver$Join") (fs2 := [.int xa, .int xc, .int xd, .int xf]) tyX10_ok nmX10 in_X10 g26452 rfl (by decide) q911 (fun _ h9 => h9) rfl (tyX10_ok 3 (by decide)) rfl rfl (Nat.le_of_ble_eq_true rfl) rfl dX7_joinLine_57 rfl (fun h26453 e26454 => ?_)
  have k26455 := hu_fr e26454
  have g26456 := hu_at e26454
  clear e26454
  have g26457 := k26455 _ _ (nm1 ne26335) gf
  have g26458 := k26455 _ _ (nm1 ne26336) g26447
  have g26459 := k26455 _ _ (nm1 ne26337) g26448
  have g26460 := k26455 _ _ (nm1 ne26338) g26449
  have g26461 := k26455 _ _ (nm1 ne26339) g26450
  have g26462 := k26455 _ _ (nm1 ne26340) g26451
  refine ga_aload_n 61 C.c 0 rfl rfl dX7_joinLine_60 rfl ?_
  refine ga_get1 64 2 C.c C.ts (own := RX7) (ref := "QuotedRiver$Reader") C.ow C.k (hw_one g26457) in_X7 rfl (by decide) q638 (fun _ h9 => h9) rfl dX7_joinLine_61 rfl ?_
  refine ga_get1N 67 1 C.c C.ts (own := RX7) (ref := "QuotedRiver$Rivers") C.ow C.k (hw_one g26459) in_X2 rfl (by decide) (C.n.use q393 rfl) (fun _ h9 => h9) rfl dX7_joinLine_64 rfl ?_
  refine ga_aload_n 68 C.c 1 rfl rfl dX7_joinLine_67 rfl ?_
  have nd26463 : h o26328 = none := by
    cases c9 : h o26328 with
    | none => rfl
    | some e9 =>
      rw [n26331] at c9
      cases c9
  refine hh_callF 73 C (as := [.ref o26328]) (met_J2_add_r (eL E) D kk dE A _ l1 d1 5 n1 o26328 f1 m1 hn1 (by decide) ⟨10, _, g26456, by omega, by omega⟩ (nm1 (Ne.symm ne26339)) g26461 g26462) g26461 (T := TJ2) rfl (C.f _ (List.mem_of_getElem? (i := 0) rfl)) (lw_F q826 q829 q831 q98 q833) cdL_add rfl (Nat.le_of_ble_eq_true rfl) (Nat.le_of_ble_eq_true rfl) (Nat.le_of_ble_eq_true rfl) (Nat.le_of_ble_eq_true rfl) (Nat.le_of_ble_eq_true rfl) dX7_joinLine_68 rfl (fun v26465 h26464 p26466 => ?_)
  obtain ⟨rfl, gl, gd, ka9⟩ := p26466
  have g26467 := ka9 _ _ (nm2 ne26318 ne26319) g26457
  have g26468 := ka9 _ _ (nm2 ne26322 ntd) g26458
  have g26469 := ka9 _ _ (nm2 ne26324 ne26325) g26459
  have g26470 := ka9 _ _ (nm2 n01 ne26326) g26460
  have g26471 := ka9 _ _ (nm2 (Ne.symm ne26339) (Ne.symm ne26340)) g26456
  refine ga_pop 74 C.c rfl dX7_joinLine_73 rfl ?_
  have kF26472 : hfr h h26464 [rd, l1, d1] := by
    intro b e nb hb
    have m_o26328 : b ≠ o26328 := hn_ne hb n26331
    have b26473 := k26333 b e List.not_mem_nil hb
    have b26474 := ka b e (nm1 (nx nb (by simp))) b26473
    have b26475 := k26364 b e (nm1 m_o26328) b26474
    have b26476 := kb b e (nm1 (nx nb (by simp))) b26475
    have b26477 := kc b e (nm1 (nx nb (by simp))) b26476
    have b26478 := k26401 b e (nm1 m_o26328) b26477
    have b26479 := kd b e (nm1 (nx nb (by simp))) b26478
    have b26480 := k26427 b e (nm1 m_o26328) b26479
    have b26481 := kf b e (nm1 (nx nb (by simp))) b26480
    have b26482 := k26455 b e (nm1 m_o26328) b26481
    have b26483 := ka9 b e (nm2 (nx nb (by simp)) (nx nb (by simp))) b26482
    exact b26483
  exact hx_vret C hr hlk hq (Nat.le_of_ble_eq_true rfl) (Nat.le_of_ble_eq_true rfl) ⟨rfl, xa, xc, xd, xf, o26328, sf, by unfold sp_join; rw [sp_b_r ea, sp_b_r eb, sp_b_r ec, sp_b_r ed, sp_b_r ef], hsf, nd26463, g26471, g26467, gl, gd, kF26472⟩ dX7_joinLine_74
