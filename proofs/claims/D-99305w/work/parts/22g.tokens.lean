set_option maxRecDepth 100000
theorem cd_X7_is : yX7_is.cls = RX7 ∧ yX7_is.cls ≠ "java/lang/invoke/MethodHandle" ∧ yX7_is.cls ≠ "java/lang/invoke/VarHandle" ∧ (parseMethodDescriptor yX7_is.desc).map (fun d => d.parameters.length) = some 1 := by decide +kernel
set_option maxHeartbeats 4000000 in
theorem met_X7_is (l : Launch) (D : va_G) (kk : Nat → Nat) (dE : Nat → Nat) (A : Nat → Prop) (h : hG) (rd tp rv n : Nat) (T : Nat → Int32) (s : sT) (hs : s.1 ≤ n ∧ s.2.1 ≤ s.1) (hn : n ≤ 700) (w : Nat) (hw : w < 13) (g_rd : h rd = some (.inr (7, [.ref tp, .int (nI n), .ref rv, .int (nI s.1), .int (nI s.2.1), .int s.2.2.1, .int s.2.2.2]))) (g_tp : h tp = some (.inl (kk 2, 700, .inl T))) : Met l yX7_is (ws_ yX7_is cX7_is 3 (some .boolean)) ({ frames := 4, cells := 0, slots := 0, locals := 200 } : Room) (hw_Pc D kk dE A h [.ref rd, .ref ((tgE dE).1 w)]) (hw_Qc D A (fun v h2 => v = some (.int (if sp_is T s w = true then 1 else 0)) ∧ h2 = h)) (0) (0) A := by
  refine hw_of (RX := RX7) (lo := [some (.ref rd), some (.ref ((tgE dE).1 w)), none]) (by decide) rfl (Nat.le_of_ble_eq_true rfl) rfl (fun E C hin hr hlk hq => ?_)
  have ne24001 : rd ≠ tp := hne g_rd g_tp (by simp)
  have hlen := tx_le ⟨w, hw⟩
  have hlen : 0 < tx_len.getD w 0 ∧ tx_len.getD w 0 ≤ 10 := hlen
  refine ga_aload_n 1 C.c 0 rfl rfl dX7_is_0 rfl ?_
  refine ga_get1 4 5 C.c C.ts (own := RX7) (ref := "QuotedRiver$Reader") C.ow C.k (hw_one g_rd) in_X7 rfl (by decide) q641 (fun _ h9 => h9) rfl dX7_is_1 rfl ?_
  refine ga_iconst 5 C.c (v := 1) (by decide) dX7_is_4 rfl ?_
  refine ga_icmp_ne 24 8 C.c dX7_is_5 (by decide) rfl (fun c24002 => ?_) (fun c24002 => ?_)
  · refine ga_iconst 25 C.c (v := 0) (by decide) dX7_is_24 rfl ?_
    exact hw_iret C hr hlk hq rfl (Nat.le_of_ble_eq_true rfl) (Nat.le_of_ble_eq_true rfl) ⟨by rw [if_neg (fun q => by unfold sp_is at q; rw [Bool.and_eq_true, Bool.and_eq_true] at q; exact c24002 (of_decide_eq_true q.1.1))]; rfl, rfl⟩ dX7_is_25
  · refine ga_aload_n 9 C.c 0 rfl rfl dX7_is_8 rfl ?_
    refine ga_get1 12 3 C.c C.ts (own := RX7) (ref := "QuotedRiver$Reader") C.ow C.k (hw_one g_rd) in_X7 rfl (by decide) q639 (fun _ h9 => h9) rfl dX7_is_9 rfl ?_
    refine ga_aload_n 13 C.c 0 rfl rfl dX7_is_12 rfl ?_
    refine ga_get1 16 4 C.c C.ts (own := RX7) (ref := "QuotedRiver$Reader") C.ow C.k (hw_one g_rd) in_X7 rfl (by decide) q640 (fun _ h9 => h9) rfl dX7_is_13 rfl ?_
    refine ga_isub 17 C.c dX7_is_16 rfl ?_
    refine ga_aload_n 18 C.c 1 rfl rfl dX7_is_17 rfl ?_
    refine hh_slen 21 C hw (Nat.le_of_ble_eq_true rfl) (Nat.le_of_ble_eq_true rfl) (Nat.le_of_ble_eq_true rfl) (Nat.le_of_ble_eq_true rfl) q679 (Nat.le_of_ble_eq_true rfl) dX7_is_18 rfl ?_
    rw [show nI s.1 - nI s.2.1 = nI (s.1 - s.2.1) from pk_sub (by omega)]
    refine ga_icmp_eq 26 24 C.c dX7_is_21 (by decide) rfl (fun c24003 => ?_) (fun c24003 => ?_)
    · have hl : s.1 - s.2.1 = tx_len.getD w 0 := (nI_eq (by omega) (by omega)).mp c24003
      refine ga_iconst 27 C.c (v := 0) (by decide) dX7_is_26 rfl ?_
      refine ga_istore_n 28 C.c 2 rfl (Nat.le_of_ble_eq_true rfl) rfl dX7_is_27 rfl ?_
      have loop : ∀ (k i : Nat), i + k = tx_len.getD w 0 → (sp_isF T s.2.1 w k i = sp_isF T s.2.1 w (tx_len.getD w 0) 0) → ga_W E 3 (hw_I E D A h) 0 0 28 [some (.ref rd), some (.ref ((tgE dE).1 w)), some (.int (nI i))] [] := by
        intro k
        induction k with
        | zero =>
          intro i hi hF
          refine ga_iload_n 29 C.c 2 rfl rfl dX7_is_28 rfl ?_
          refine ga_aload_n 30 C.c 1 rfl rfl dX7_is_29 rfl ?_
          refine hh_slen 33 C hw (Nat.le_of_ble_eq_true rfl) (Nat.le_of_ble_eq_true rfl) (Nat.le_of_ble_eq_true rfl) (Nat.le_of_ble_eq_true rfl) q679 (Nat.le_of_ble_eq_true rfl) dX7_is_30 rfl ?_
          refine ga_icmp_ge 63 36 C.c dX7_is_33 (by decide) rfl (fun c24004 => ?_) (fun c24004 => absurd (show tx_l w ≤ nI i by rw [show i = tx_len.getD w 0 by omega]; exact Int32.le_refl _) c24004)
          refine ga_iconst 64 C.c (v := 1) (by decide) dX7_is_63 rfl ?_
          exact hw_iret C hr hlk hq rfl (Nat.le_of_ble_eq_true rfl) (Nat.le_of_ble_eq_true rfl) ⟨by rw [if_pos (by unfold sp_is; rw [decide_eq_true c24002, decide_eq_true hl, ← hF]; rfl)]; rfl, rfl⟩ dX7_is_64
        | succ k ih =>
          intro i hi hF
          refine ga_iload_n 29 C.c 2 rfl rfl dX7_is_28 rfl ?_
          refine ga_aload_n 30 C.c 1 rfl rfl dX7_is_29 rfl ?_
          refine hh_slen 33 C hw (Nat.le_of_ble_eq_true rfl) (Nat.le_of_ble_eq_true rfl) (Nat.le_of_ble_eq_true rfl) (Nat.le_of_ble_eq_true rfl) q679 (Nat.le_of_ble_eq_true rfl) dX7_is_30 rfl ?_
          refine ga_icmp_ge 63 36 C.c dX7_is_33 (by decide) rfl (fun c24005 => absurd c24005 (nI_ge (show i < tx_len.getD w 0 by omega) (by omega))) (fun c24005 => ?_)
          refine ga_aload_n 37 C.c 0 rfl rfl dX7_is_36 rfl ?_
          refine ga_get1 40 0 C.c C.ts (own := RX7) (ref := "QuotedRiver$Reader") C.ow C.k (hw_one g_rd) in_X7 rfl (by decide) q636 (fun _ h9 => h9) rfl dX7_is_37 rfl ?_
          refine ga_aload_n 41 C.c 0 rfl rfl dX7_is_40 rfl ?_
          refine ga_get1 44 4 C.c C.ts (own := RX7) (ref := "QuotedRiver$Reader") C.ow C.k (hw_one g_rd) in_X7 rfl (by decide) q640 (fun _ h9 => h9) rfl dX7_is_41 rfl ?_
          refine ga_iload_n 45 C.c 2 rfl rfl dX7_is_44 rfl ?_
          refine ga_iadd 46 C.c dX7_is_45 rfl ?_
          rw [nI_add]
          refine ga_a1ldb 47 2 C.c C.k (hw_one g_tp) rfl (vp_in_nI (by omega) (by decide)) dX7_is_46 rfl ?_
          rw [nI_clamp (show s.2.1 + i < 2 ^ 31 by omega)]
          refine ga_aload_n 48 C.c 1 rfl rfl dX7_is_47 rfl ?_
          refine ga_iload_n 49 C.c 2 rfl rfl dX7_is_48 rfl ?_
          refine hh_schar 52 C hw (vp_in_nI (by omega) (by omega)) (Nat.le_of_ble_eq_true rfl) (Nat.le_of_ble_eq_true rfl) (Nat.le_of_ble_eq_true rfl) (Nat.le_of_ble_eq_true rfl) q689 (Nat.le_of_ble_eq_true rfl) dX7_is_49 rfl ?_
          refine ga_icmp_eq 57 55 C.c dX7_is_52 (by decide) rfl (fun c24006 => ?_) (fun c24006 => ?_)
          · refine ga_iinc 60 C.c rfl (v := (nI i) + 1) rfl (Nat.le_of_ble_eq_true rfl) rfl dX7_is_57 rfl ?_
            refine ga_goto 28 C.c dX7_is_60 (by decide) ?_
            rw [nI_1]
            exact ga_W.sub (ih (i + 1) (by omega) (by rw [← hF]; exact (show sp_isF T s.2.1 w (k + 1) i = sp_isF T s.2.1 w k (i + 1) by rw [sp_isF, decide_eq_true c24006, Bool.true_and]).symm)) (And.intro rfl (And.intro rfl (And.intro rfl trivial)))
          · refine ga_iconst 56 C.c (v := 0) (by decide) dX7_is_55 rfl ?_
            exact hw_iret C hr hlk hq rfl (Nat.le_of_ble_eq_true rfl) (Nat.le_of_ble_eq_true rfl) ⟨by rw [if_neg (fun q => by unfold sp_is at q; rw [Bool.and_eq_true, ← hF, sp_isF, decide_eq_false c24006, Bool.false_and] at q; exact absurd q.2 (by decide))]; rfl, rfl⟩ dX7_is_56
      exact ga_W.sub (loop (tx_len.getD w 0) 0 (by omega) rfl) (And.intro rfl (And.intro rfl (And.intro rfl trivial)))
    · refine ga_iconst 25 C.c (v := 0) (by decide) dX7_is_24 rfl ?_
      exact hw_iret C hr hlk hq rfl (Nat.le_of_ble_eq_true rfl) (Nat.le_of_ble_eq_true rfl) ⟨by rw [if_neg (fun q => by unfold sp_is at q; rw [Bool.and_eq_true, Bool.and_eq_true] at q; exact c24003 (by rw [of_decide_eq_true q.1.2]; rfl))]; rfl, rfl⟩ dX7_is_25
theorem cd_X7_takes : yX7_takes.cls = RX7 ∧ yX7_takes.cls ≠ "java/lang/invoke/MethodHandle" ∧ yX7_takes.cls ≠ "java/lang/invoke/VarHandle" ∧ (parseMethodDescriptor yX7_takes.desc).map (fun d => d.parameters.length) = some 1 := by decide +kernel
set_option maxHeartbeats 4000000 in
theorem met_X7_takes (l : Launch) (D : va_G) (kk : Nat → Nat) (dE : Nat → Nat) (A : Nat → Prop) (h : hG) (rd tp rv n : Nat) (T : Nat → Int32) (s : sT) (hs : s.1 ≤ n ∧ s.2.1 ≤ s.1) (hn : n ≤ 700) (w : Nat) (hw : w < 13) (g_rd : h rd = some (.inr (7, [.ref tp, .int (nI n), .ref rv, .int (nI s.1), .int (nI s.2.1), .int s.2.2.1, .int s.2.2.2]))) (g_tp : h tp = some (.inl (kk 2, 700, .inl T))) : Met l yX7_takes (ws_ yX7_takes cX7_takes 3 (some .boolean)) ({ frames := 5, cells := 0, slots := 0, locals := 240 } : Room) (hw_Pc D kk dE A h [.ref rd, .ref ((tgE dE).1 w)]) (hw_Qc D A (fun v h2 => v = some (.int (sp_takes T n s w).1) ∧ h2 rd = some (rdc tp n rv (sp_takes T n s w).2) ∧ hfr h h2 [rd])) (0) (0) A := by
  refine hw_of (RX := RX7) (lo := [some (.ref rd), some (.ref ((tgE dE).1 w)), none]) (by decide) rfl (Nat.le_of_ble_eq_true rfl) rfl (fun E C hin hr hlk hq => ?_)
  have ne24007 : rd ≠ tp := hne g_rd g_tp (by simp)
  refine ga_aload_n 1 C.c 0 rfl rfl dX7_takes_0 rfl ?_
  refine ga_aload_n 2 C.c 1 rfl rfl dX7_takes_1 rfl ?_
  refine hh_callV 5 C (as := [.ref ((tgE dE).1 w)]) (met_X7_is (eL E) D kk dE A _ rd tp rv n T s hs hn w hw g_rd g_tp) g_rd (T := TX7) rfl (lw_V q675 q677 qs10 q103 q678) cd_X7_is rfl (Nat.le_of_ble_eq_true rfl) (Nat.le_of_ble_eq_true rfl) (Nat.le_of_ble_eq_true rfl) (Nat.le_of_ble_eq_true rfl) (Nat.le_of_ble_eq_true rfl) dX7_takes_2 rfl (fun v24009 h24008 p24010 => ?_)
  obtain ⟨rfl, e24011⟩ := p24010
  have e24011 := e24011.symm
  subst e24011
  refine ga_istore_n 6 C.c 2 rfl (Nat.le_of_ble_eq_true rfl) rfl dX7_takes_5 rfl ?_
  refine ga_iload_n 7 C.c 2 rfl rfl dX7_takes_6 rfl ?_
  by_cases c24012 : sp_is T s w = true
  · have e1 : (if sp_is T s w = true then (1 : Int32) else 0) = 1 := if_pos c24012
    refine ga_if_eq 14 10 C.c dX7_takes_7 (by decide) rfl (fun c24013 => absurd (e1.symm.trans c24013) (by decide)) (fun c24013 => ?_)
    refine ga_aload_n 11 C.c 0 rfl rfl dX7_takes_10 rfl ?_
    refine hh_callV 14 C (as := []) (met_X7_next (eL E) D kk dE A _ rd tp rv n T s hs hn g_rd g_tp) g_rd (T := TX7) rfl (lw_V q623 q625 qs5 q103 q626) cd_X7_next rfl (Nat.le_of_ble_eq_true rfl) (Nat.le_of_ble_eq_true rfl) (Nat.le_of_ble_eq_true rfl) (Nat.le_of_ble_eq_true rfl) (Nat.le_of_ble_eq_true rfl) dX7_takes_11 rfl (fun v24015 h24014 p24016 => ?_)
    obtain ⟨rfl, gn, kn⟩ := p24016
    have g24017 := kn _ _ (nm1 (Ne.symm ne24007)) g_tp
    refine ga_iload_n 15 C.c 2 rfl rfl dX7_takes_14 rfl ?_
    have e9 : sp_takes T n s w = (1, tk T n s.1) := by unfold sp_takes; rw [if_pos c24012]
    exact hw_iret C hr hlk hq rfl (Nat.le_of_ble_eq_true rfl) (Nat.le_of_ble_eq_true rfl) ⟨by rw [e1, e9]; rfl, by rw [e9]; exact gn, kn⟩ dX7_takes_15
  · have e1 : (if sp_is T s w = true then (1 : Int32) else 0) = 0 := if_neg c24012
    refine ga_if_eq 14 10 C.c dX7_takes_7 (by decide) rfl (fun c24018 => ?_) (fun c24018 => absurd e1 c24018)
    refine ga_iload_n 15 C.c 2 rfl rfl dX7_takes_14 rfl ?_
    have e9 : sp_takes T n s w = (0, s) := by unfold sp_takes; rw [if_neg c24012]
    exact hw_iret C hr hlk hq rfl (Nat.le_of_ble_eq_true rfl) (Nat.le_of_ble_eq_true rfl) ⟨by rw [e1, e9]; rfl, by rw [e9]; exact g_rd, hfr.rf⟩ dX7_takes_15
theorem cd_X7_asks : yX7_asks.cls = RX7 ∧ yX7_asks.cls ≠ "java/lang/invoke/MethodHandle" ∧ yX7_asks.cls ≠ "java/lang/invoke/VarHandle" ∧ (parseMethodDescriptor yX7_asks.desc).map (fun d => d.parameters.length) = some 1 := by decide +kernel
set_option maxHeartbeats 4000000 in
theorem met_X7_asks (l : Launch) (D : va_G) (kk : Nat → Nat) (dE : Nat → Nat) (A : Nat → Prop) (h : hG) (rd tp rv n : Nat) (T : Nat → Int32) (s : sT) (hs : s.1 ≤ n ∧ s.2.1 ≤ s.1) (hn : n ≤ 700) (w : Nat) (hw : w < 13) (g_rd : h rd = some (.inr (7, [.ref tp, .int (nI n), .ref rv, .int (nI s.1), .int (nI s.2.1), .int s.2.2.1, .int s.2.2.2]))) (g_tp : h tp = some (.inl (kk 2, 700, .inl T))) : vx_Met l yX7_asks (ws_ yX7_asks cX7_asks 2 none) ({ frames := 6, cells := 1, slots := 8, locals := 280 } : Room) (hw_Pc D kk dE A h [.ref rd, .ref ((tgE dE).1 w)]) (hw_Qc D A (fun v h2 => v = none ∧ ∃ s2, sp_asks T n s w = .inr s2 ∧ (s2.1 ≤ n ∧ s2.2.1 ≤ s2.1) ∧ h2 rd = some (rdc tp n rv s2) ∧ hfr h h2 [rd])) (hx_X D A (fun q h2 => ∃ f, sp_asks T n s w = .inl f ∧ FT h2 q f ∧ hfr h h2 [rd])) (1) (8) A := by
  refine hx_of (RX := RX7) (lo := [some (.ref rd), some (.ref ((tgE dE).1 w))]) (by decide) rfl (Nat.le_of_ble_eq_true rfl) rfl (fun E C hnx hr hlk hq => ?_)
  have ne24019 : rd ≠ tp := hne g_rd g_tp (by simp)
  refine ga_aload_n 1 C.c 0 rfl rfl dX7_asks_0 rfl ?_
  refine ga_aload_n 2 C.c 1 rfl rfl dX7_asks_1 rfl ?_
  refine hh_callV 5 C (as := [.ref ((tgE dE).1 w)]) (met_X7_takes (eL E) D kk dE A _ rd tp rv n T s hs hn w hw g_rd g_tp) g_rd (T := TX7) rfl (lw_V q671 q673 qs9 q103 q674) cd_X7_takes rfl (Nat.le_of_ble_eq_true rfl) (Nat.le_of_ble_eq_true rfl) (Nat.le_of_ble_eq_true rfl) (Nat.le_of_ble_eq_true rfl) (Nat.le_of_ble_eq_true rfl) dX7_asks_2 rfl (fun v24021 h24020 p24022 => ?_)
  obtain ⟨rfl, gt, kt⟩ := p24022
  have g24023 := kt _ _ (nm1 (Ne.symm ne24019)) g_tp
  by_cases c24024 : sp_is T s w = true
  · have e9 : sp_takes T n s w = (1, tk T n s.1) := by unfold sp_takes; rw [if_pos c24024]
    rw [e9] at gt
    rw [e9]
    refine ga_if_ne 14 8 C.c dX7_asks_5 (by decide) rfl (fun c24025 => ?_) (fun c24025 => absurd (show (1 : Int32) = 0 from c24025) (by decide))
    exact hx_vret C hr hlk hq (Nat.le_of_ble_eq_true rfl) (Nat.le_of_ble_eq_true rfl) ⟨rfl, tk T n s.1, by unfold sp_asks; rw [if_pos c24024], tk_le hs.1, gt, kt⟩ dX7_asks_14
  · have e9 : sp_takes T n s w = (0, s) := by unfold sp_takes; rw [if_neg c24024]
    rw [e9] at gt
    rw [e9]
    refine ga_if_ne 14 8 C.c dX7_asks_5 (by decide) rfl (fun c24026 => absurd rfl c24026) (fun c24026 => ?_)
    refine ga_aload_n 9 C.c 0 rfl rfl dX7_asks_8 rfl ?_
    refine ga_iconst 10 C.c (v := 1) (by decide) dX7_asks_9 rfl ?_
    refine hh_callV 13 C (as := [.int 1]) (met_X7_fault (eL E) D kk dE A _ rd tp rv n T s hs hn 1 gt g24023) gt (T := TX7) rfl (lw_V q727 q729 qs11 q103 q730) cd_X7_fault rfl (Nat.le_of_ble_eq_true rfl) (Nat.le_of_ble_eq_true rfl) (Nat.le_of_ble_eq_true rfl) (Nat.le_of_ble_eq_true rfl) (Nat.le_of_ble_eq_true rfl) dX7_asks_10 rfl (fun v24028 h24027 p24029 => ?_)
    obtain ⟨fq, nq, rfl, gf, kf⟩ := p24029
    have ne24030 : rd ≠ fq := hn_ne gt nq
    have ne24031 : tp ≠ fq := hn_ne g24023 nq
    have g24032 := kf _ _ List.not_mem_nil gt
    have g24033 := kf _ _ List.not_mem_nil g24023
    have kF24034 : hfr h h24027 [rd] := by
      intro b e nb hb
      have b24035 := kt b e (nm1 (nx nb (by simp))) hb
      have m_fq : b ≠ fq := hn_ne b24035 nq
      have b24036 := kf b e List.not_mem_nil b24035
      exact b24036
    exact hx_throw C hnx hlk hq gf (Nat.le_of_ble_eq_true rfl) (Nat.le_of_ble_eq_true rfl) ⟨_, by unfold sp_asks; rw [if_neg c24024], gf, kF24034⟩ dX7_asks_13
theorem cd_X7_number_2 : yX7_number_2.cls = RX7 ∧ yX7_number_2.cls ≠ "java/lang/invoke/MethodHandle" ∧ yX7_number_2.cls ≠ "java/lang/invoke/VarHandle" ∧ (parseMethodDescriptor yX7_number_2.desc).map (fun d => d.parameters.length) = some 2 := by decide +kernel
set_option maxHeartbeats 4000000 in
theorem met_X7_number_2 (l : Launch) (D : va_G) (kk : Nat → Nat) (dE : Nat → Nat) (A : Nat → Prop) (h : hG) (rd tp rv n : Nat) (T : Nat → Int32) (s : sT) (hs : s.1 ≤ n ∧ s.2.1 ≤ s.1) (hn : n ≤ 700) (lo hi : Int32) (g_rd : h rd = some (.inr (7, [.ref tp, .int (nI n), .ref rv, .int (nI s.1), .int (nI s.2.1), .int s.2.2.1, .int s.2.2.2]))) (g_tp : h tp = some (.inl (kk 2, 700, .inl T))) : vx_Met l yX7_number_2 (ws_ yX7_number_2 cX7_number_2 4 (some .int)) ({ frames := 6, cells := 1, slots := 8, locals := 280 } : Room) (hw_Pc D kk dE A h [.ref rd, .int lo, .int hi]) (hw_Qc D A (fun v h2 => ∃ x s2, sp_num T n s lo hi = .inr (x, s2) ∧ v = some (.int x) ∧ (s2.1 ≤ n ∧ s2.2.1 ≤ s2.1) ∧ h2 rd = some (rdc tp n rv s2) ∧ hfr h h2 [rd])) (hx_X D A (fun q h2 => ∃ f, sp_num T n s lo hi = .inl f ∧ FT h2 q f ∧ hfr h h2 [rd])) (1) (8) A := by
  refine hx_of (RX := RX7) (lo := [some (.ref rd), some (.int lo), some (.int hi), none]) (by decide) rfl (Nat.le_of_ble_eq_true rfl) rfl (fun E C hnx hr hlk hq => ?_)
  have ne24037 : rd ≠ tp := hne g_rd g_tp (by simp)
  refine ga_aload_n 1 C.c 0 rfl rfl dX7_number_2_0 rfl ?_
  refine ga_get1 4 5 C.c C.ts (own := RX7) (ref := "QuotedRiver$Reader") C.ow C.k (hw_one g_rd) in_X7 rfl (by decide) q641 (fun _ h9 => h9) rfl dX7_number_2_1 rfl ?_
  refine ga_iconst 5 C.c (v := 2) (by decide) dX7_number_2_4 rfl ?_
  refine ga_icmp_eq 14 8 C.c dX7_number_2_5 (by decide) rfl (fun c24038 => ?_) (fun c24038 => ?_)
  · refine ga_aload_n 15 C.c 0 rfl rfl dX7_number_2_14 rfl ?_
    refine ga_get1 18 6 C.c C.ts (own := RX7) (ref := "QuotedRiver$Reader") C.ow C.k (hw_one g_rd) in_X7 rfl (by decide) q642 (fun _ h9 => h9) rfl dX7_number_2_15 rfl ?_
    refine ga_i2l 19 C.c dX7_number_2_18 rfl ?_
    refine ga_iload_n 20 C.c 1 rfl rfl dX7_number_2_19 rfl ?_
    refine ga_i2l 21 C.c dX7_number_2_20 rfl ?_
    refine ga_iload_n 22 C.c 2 rfl rfl dX7_number_2_21 rfl ?_
    refine ga_i2l 23 C.c dX7_number_2_22 rfl ?_
    refine ga_callSN 26 (RX := RX7) C.c C.ml C.ow C.ts C.n (as := [.long s.2.2.2.toInt64, .long lo.toInt64, .long hi.toInt64]) (met_X0_in (eL E) _ _ _) q631 q137 q93 q138 cd_X0_in rfl (by rw [C.rm]; exact (Nat.le_of_ble_eq_true rfl)) (by rw [C.rm]; exact (Nat.le_of_ble_eq_true rfl)) (by rw [C.rm]; exact (Nat.le_of_ble_eq_true rfl)) (by rw [C.rm]; exact (Nat.le_of_ble_eq_true rfl)) (Nat.le_of_ble_eq_true rfl) dX7_number_2_23 rfl ?_
    refine ga_if_ne 35 29 C.c dX7_number_2_26 (by decide) rfl (fun c24039 => ?_) (fun c24039 => ?_)
    · refine ga_aload_n 36 C.c 0 rfl rfl dX7_number_2_35 rfl ?_
      refine ga_get1 39 6 C.c C.ts (own := RX7) (ref := "QuotedRiver$Reader") C.ow C.k (hw_one g_rd) in_X7 rfl (by decide) q642 (fun _ h9 => h9) rfl dX7_number_2_36 rfl ?_
      refine ga_istore_n 40 C.c 3 rfl (Nat.le_of_ble_eq_true rfl) rfl dX7_number_2_39 rfl ?_
      refine ga_aload_n 41 C.c 0 rfl rfl dX7_number_2_40 rfl ?_
      refine hh_callV 44 C (as := []) (met_X7_next (eL E) D kk dE A _ rd tp rv n T s hs hn g_rd g_tp) g_rd (T := TX7) rfl (lw_V q623 q625 qs5 q103 q626) cd_X7_next rfl (Nat.le_of_ble_eq_true rfl) (Nat.le_of_ble_eq_true rfl) (Nat.le_of_ble_eq_true rfl) (Nat.le_of_ble_eq_true rfl) (Nat.le_of_ble_eq_true rfl) dX7_number_2_41 rfl (fun v24041 h24040 p24042 => ?_)
      obtain ⟨rfl, gn, kn⟩ := p24042
      have g24043 := kn _ _ (nm1 (Ne.symm ne24037)) g_tp
      refine ga_iload_n 45 C.c 3 rfl rfl dX7_number_2_44 rfl ?_
      exact hx_iret C hr hlk hq rfl (Nat.le_of_ble_eq_true rfl) (Nat.le_of_ble_eq_true rfl) ⟨_, _, by unfold sp_num; rw [if_pos c24038, if_neg c24039], rfl, tk_le hs.1, gn, kn⟩ dX7_number_2_45
    · refine ga_aload_n 30 C.c 0 rfl rfl dX7_number_2_29 rfl ?_
      refine ga_iconst 31 C.c (v := 2) (by decide) dX7_number_2_30 rfl ?_
      refine hh_callV 34 C (as := [.int 2]) (met_X7_fault (eL E) D kk dE A _ rd tp rv n T s hs hn 2 g_rd g_tp) g_rd (T := TX7) rfl (lw_V q727 q729 qs11 q103 q730) cd_X7_fault rfl (Nat.le_of_ble_eq_true rfl) (Nat.le_of_ble_eq_true rfl) (Nat.le_of_ble_eq_true rfl) (Nat.le_of_ble_eq_true rfl) (Nat.le_of_ble_eq_true rfl) dX7_number_2_31 rfl (fun v24045 h24044 p24046 => ?_)
      obtain ⟨fq, nq, rfl, gf, kf⟩ := p24046
      have ne24047 : rd ≠ fq := hn_ne g_rd nq
      have ne24048 : tp ≠ fq := hn_ne g_tp nq
      have g24049 := kf _ _ List.not_mem_nil g_rd
      have g24050 := kf _ _ List.not_mem_nil g_tp
      have kF24051 : hfr h h24044 [rd] := by
        intro b e nb hb
        have m_fq : b ≠ fq := hn_ne hb nq
        have b24052 := kf b e List.not_mem_nil hb
        exact b24052
      exact hx_throw C hnx hlk hq gf (Nat.le_of_ble_eq_true rfl) (Nat.le_of_ble_eq_true rfl) ⟨_, by unfold sp_num; rw [if_pos c24038, if_pos c24039], gf, kF24051⟩ dX7_number_2_34
  · refine ga_aload_n 9 C.c 0 rfl rfl dX7_number_2_8 rfl ?_
    refine ga_iconst 10 C.c (v := 1) (by decide) dX7_number_2_9 rfl ?_
    refine hh_callV 13 C (as := [.int 1]) (met_X7_fault (eL E) D kk dE A _ rd tp rv n T s hs hn 1 g_rd g_tp) g_rd (T := TX7) rfl (lw_V q727 q729 qs11 q103 q730) cd_X7_fault rfl (Nat.le_of_ble_eq_true rfl) (Nat.le_of_ble_eq_true rfl) (Nat.le_of_ble_eq_true rfl) (Nat.le_of_ble_eq_true rfl) (Nat.le_of_ble_eq_true rfl) dX7_number_2_10 rfl (fun v24054 h24053 p24055 => ?_)
    obtain ⟨fq, nq, rfl, gf, kf⟩ := p24055
    have ne24056 : rd ≠ fq := hn_ne g_rd nq
    have ne24057 : tp ≠ fq := hn_ne g_tp nq
    have g24058 := kf _ _ List.not_mem_nil g_rd
    have g24059 := kf _ _ List.not_mem_nil g_tp
    have kF24060 : hfr h h24053 [rd] := by
      intro b e nb hb
      have m_fq : b ≠ fq := hn_ne hb nq
      have b24061 := kf b e List.not_mem_nil hb
      exact b24061
    exact hx_throw C hnx hlk hq gf (Nat.le_of_ble_eq_true rfl) (Nat.le_of_ble_eq_true rfl) ⟨_, by unfold sp_num; rw [if_neg c24038], gf, kF24060⟩ dX7_number_2_13
theorem cd_X7_number : yX7_number.cls = RX7 ∧ yX7_number.cls ≠ "java/lang/invoke/MethodHandle" ∧ yX7_number.cls ≠ "java/lang/invoke/VarHandle" ∧ (parseMethodDescriptor yX7_number.desc).map (fun d => d.parameters.length) = some 3 := by decide +kernel
set_option maxHeartbeats 4000000 in
theorem met_X7_number (l : Launch) (D : va_G) (kk : Nat → Nat) (dE : Nat → Nat) (A : Nat → Prop) (h : hG) (rd tp rv n : Nat) (T : Nat → Int32) (s : sT) (hs : s.1 ≤ n ∧ s.2.1 ≤ s.1) (hn : n ≤ 700) (w : Nat) (hw : w < 13) (lo hi : Int32) (g_rd : h rd = some (.inr (7, [.ref tp, .int (nI n), .ref rv, .int (nI s.1), .int (nI s.2.1), .int s.2.2.1, .int s.2.2.2]))) (g_tp : h tp = some (.inl (kk 2, 700, .inl T))) : vx_Met l yX7_number (ws_ yX7_number cX7_number 4 (some .int)) ({ frames := 7, cells := 2, slots := 16, locals := 320 } : Room) (hw_Pc D kk dE A h [.ref rd, .ref ((tgE dE).1 w), .int lo, .int hi]) (hw_Qc D A (fun v h2 => ∃ x s2, sp_numw T n s w lo hi = .inr (x, s2) ∧ v = some (.int x) ∧ (s2.1 ≤ n ∧ s2.2.1 ≤ s2.1) ∧ h2 rd = some (rdc tp n rv s2) ∧ hfr h h2 [rd])) (hx_X D A (fun q h2 => ∃ f, sp_numw T n s w lo hi = .inl f ∧ FT h2 q f ∧ hfr h h2 [rd])) (2) (16) A := by
  refine hx_of (RX := RX7) (lo := [some (.ref rd), some (.ref ((tgE dE).1 w)), some (.int lo), some (.int hi)]) (by decide) rfl (Nat.le_of_ble_eq_true rfl) rfl (fun E C hnx hr hlk hq => ?_)
  have ne24062 : rd ≠ tp := hne g_rd g_tp (by simp)
  refine ga_aload_n 1 C.c 0 rfl rfl dX7_number_0 rfl ?_
  refine ga_aload_n 2 C.c 1 rfl rfl dX7_number_1 rfl ?_
  refine hx_callV 5 C hnx hlk hq (as := [.ref ((tgE dE).1 w)]) (met_X7_asks (eL E) D kk dE A _ rd tp rv n T s hs hn w hw g_rd g_tp) (fun q h2 hq2 => by obtain ⟨f, e1, e2, e3⟩ := hq2; exact ⟨f, by unfold sp_numw; rw [e1], e2, e3⟩) g_rd (T := TX7) rfl (lw_V q667 q669 qs8 q103 q670) cd_X7_asks rfl (Nat.le_of_ble_eq_true rfl) (Nat.le_of_ble_eq_true rfl) (Nat.le_of_ble_eq_true rfl) (Nat.le_of_ble_eq_true rfl) (Nat.le_of_ble_eq_true rfl) dX7_number_2 rfl (fun v24064 h24063 p24065 => ?_)
  obtain ⟨rfl, s2, es, hs2, ga, ka⟩ := p24065
  have g24066 := ka _ _ (nm1 (Ne.symm ne24062)) g_tp
  refine ga_aload_n 6 C.c 0 rfl rfl dX7_number_5 rfl ?_
  refine ga_iload_n 7 C.c 2 rfl rfl dX7_number_6 rfl ?_
  refine ga_iload_n 8 C.c 3 rfl rfl dX7_number_7 rfl ?_
  refine hx_callV 11 C hnx hlk hq (as := [.int lo, .int hi]) (met_X7_number_2 (eL E) D kk dE A _ rd tp rv n T s2 hs2 hn lo hi ga g24066) (fun q h3 hq3 => by obtain ⟨f, e1, e2, e3⟩ := hq3; exact ⟨f, by unfold sp_numw; rw [es]; exact e1, e2, ka.tr e3 (fun x hx => hx) (fun x hx => Or.inl hx)⟩) ga (T := TX7) rfl (lw_V q767 q769 qs13 q103 q770) cd_X7_number_2 rfl (Nat.le_of_ble_eq_true rfl) (Nat.le_of_ble_eq_true rfl) (Nat.le_of_ble_eq_true rfl) (Nat.le_of_ble_eq_true rfl) (Nat.le_of_ble_eq_true rfl) dX7_number_8 rfl (fun v24068 h24067 p24069 => ?_)
  obtain ⟨x, s3, e3, rfl, hs3, gb, kb⟩ := p24069
  have g24070 := kb _ _ (nm1 (Ne.symm ne24062)) g24066
  have kF24071 : hfr h h24067 [rd] := by
    intro b e nb hb
    have b24072 := ka b e (nm1 (nx nb (by simp))) hb
    have b24073 := kb b e (nm1 (nx nb (by simp))) b24072
    exact b24073
  exact hx_iret C hr hlk hq rfl (Nat.le_of_ble_eq_true rfl) (Nat.le_of_ble_eq_true rfl) ⟨x, s3, by unfold sp_numw; rw [es]; exact e3, rfl, hs3, gb, kF24071⟩ dX7_number_11
