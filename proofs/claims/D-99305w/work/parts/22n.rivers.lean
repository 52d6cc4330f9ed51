set_option maxRecDepth 100000
theorem cd_X0_rivers : yX0_rivers.cls = RX0 ∧ yX0_rivers.cls ≠ "java/lang/invoke/MethodHandle" ∧ yX0_rivers.cls ≠ "java/lang/invoke/VarHandle" ∧ (parseMethodDescriptor yX0_rivers.desc).map (fun d => d.parameters.length) = some 0 := by decide +kernel
set_option maxHeartbeats 4000000 in
theorem met_X0_rivers (l : Launch) (D : va_G) (kk : Nat → Nat) (dE : Nat → Nat) (A : Nat → Prop) (h : hG) (g : Nat → Nat) (z : MS) (G : XG) (S : XL) (p : PS) (M : XI) (X : XF kk dE h g z G S p M) (t : Nat) (ht : mi z 0 = nI t) (ht2 : t ≤ 700) (r : sF ⊕ (Nat → Int32)) (hk : sp_reads (ma z 0) t 23 (tk (ma z 0) t 0) (fun _ => 0) = some r) : vx_Met l yX0_rivers (wsW_ yX0_rivers cX0_rivers 4 (some .int) [(0, 59, 66, 118), (0, 59, 93, 0), (66, 86, 93, 0)]) ({ frames := 14, cells := 460, slots := 3100, locals := 560 } : Room) (hw_Pc D kk dE A h [.ref (g 0)]) (hw_Qc D A (fun v h2 => (∀ f, r = .inl f → v = some (.int (-4)) ∧ XF kk dE h2 g (msi (msi (msi z 1 f.1) 2 (nI f.2)) 0 0) G S p M) ∧ (∀ w2, r = .inr w2 → ∃ b G2, v = some (.int (sp_now w2 7)) ∧ XF kk dE h2 (va_up g 15 b) (msi (msi (msi z 1 0) 2 (-1)) 0 0) G2 S (pset p (sp_now w2)) M))) (hx_X D A (fun _ _ => False)) (460) (3100) A := by
  refine hx_ofH (RX := RX0) (lo := [some (.ref (g 0)), none, none, none]) (hh := [(0, 59, 66, 118), (0, 59, 93, 0), (66, 86, 93, 0)]) (by decide) rfl (Nat.le_of_ble_eq_true rfl) rfl (fun E C hT hr hlk hq => ?_)
  have ht7 : t ≤ 700 := ht2
  have g32001 : h (g 0) = some (.inr (0, [.ref (g 13), .ref (g 15), .ref (g 14), .ref (g 1), .int (mi z 0), .int (mi z 1), .int (mi z 2), .ref (g 2), .ref (g 5), .ref (g 7), .int (mi z 3), .ref (g 9), .int (mi z 4), .ref (g 11), .ref (g 12)])) := X.f 0 _ rfl
  have g32002 : h (g 1) = some (.inl (kk 2, 700, .inl (ma z 0))) := X.f 1 _ rfl
  refine hh_new 3 C (ci := 7) (fs := [.null, .int 0, .null, .int 0, .int 0, .int 0, .int 0]) tyX7 tyX7_ok in_X7 q615 q616 q103 rfl (fun j hj => by rcases (show j = 0 ∨ j = 1 ∨ j = 2 ∨ j = 3 ∨ j = 4 ∨ j = 5 ∨ j = 6 by omega) with rfl | rfl | rfl | rfl | rfl | rfl | rfl <;> rfl) (Nat.le_of_ble_eq_true rfl) (Nat.le_of_ble_eq_true rfl) dX0_rivers_0 rfl (fun o32003 h32004 n32006 a32007 e32005 => ?_)
  have k32008 := hu_fr0 e32005 n32006
  have g32009 := hu_at e32005
  clear e32005
  have ne32010 : (g 0) ≠ o32003 := hn_ne g32001 n32006
  have ne32011 : (g 1) ≠ o32003 := hn_ne g32002 n32006
  have g32012 := k32008 _ _ List.not_mem_nil g32001
  have g32013 := k32008 _ _ List.not_mem_nil g32002
  refine ga_dup 4 C.c rfl dX0_rivers_3 rfl ?_
  refine ga_aload_n 5 C.c 0 rfl rfl dX0_rivers_4 rfl ?_
  refine ga_get1 8 3 C.c C.ts (own := RX0) (ref := "QuotedRiver") C.ow C.k (hw_one g32012) in_X0 rfl (by decide) q556 (fun _ h9 => h9) rfl dX0_rivers_5 rfl ?_
  refine ga_aload_n 9 C.c 0 rfl rfl dX0_rivers_8 rfl ?_
  refine ga_get1 12 4 C.c C.ts (own := RX0) (ref := "QuotedRiver") C.ow C.k (hw_one g32012) in_X0 rfl (by decide) q557 (fun _ h9 => h9) rfl dX0_rivers_9 rfl ?_
  rw [ht]
  have hE1 : ∃ fE : Nat → Option Nat, h32004 (dE 0) = some (.inl (kk 5, 0, .inr (.inr (.inr (.inr fE))))) := by
    have kF32014 : hfr h h32004 [] := by
      intro b e nb hb
      have m_o32003 : b ≠ o32003 := hn_ne hb n32006
      have b32015 := k32008 b e List.not_mem_nil hb
      exact b32015
    obtain ⟨fE, hE⟩ := X.e
    exact ⟨fE, kF32014 _ _ List.not_mem_nil hE⟩
  have kF32016 : hfr h h32004 [] := by
    intro b e nb hb
    have m_o32003 : b ≠ o32003 := hn_ne hb n32006
    have b32017 := k32008 b e List.not_mem_nil hb
    exact b32017
  refine hh_callI 15 C (as := [.ref (g 1), .int (nI t)]) (met_X7_init (eL E) D kk dE A _ o32003 (g 1) t (ma z 0) ht2 hE1 g32009 g32013) q617 q618 q103 q619 rfl cd_X7_init rfl (Nat.le_of_ble_eq_true rfl) (Nat.le_of_ble_eq_true rfl) (Nat.le_of_ble_eq_true rfl) (Nat.le_of_ble_eq_true rfl) (Nat.le_of_ble_eq_true rfl) dX0_rivers_12 rfl (fun v32019 h32018 p32020 => ?_)
  obtain ⟨rfl, rv, G0, HR0, N0, grd, kr⟩ := p32020
  have N0 := N0.back kF32016
  have g32021 := kr _ _ (nm1 ne32010) g32012
  have g32022 := kr _ _ (nm1 ne32011) g32013
  have nd32023 : h o32003 = none := by
    cases c9 : h o32003 with
    | none => rfl
    | some e9 =>
      rw [n32006] at c9
      cases c9
  have kF32024 : hfr h h32018 [] := by
    intro b e nb hb
    have m_o32003 : b ≠ o32003 := hn_ne hb n32006
    have b32025 := k32008 b e List.not_mem_nil hb
    have b32026 := kr b e (nm1 m_o32003) b32025
    exact b32026
  refine hx_callVC 18 C hT [] ⟨0, 59, 66, 118⟩ [⟨0, 59, 93, 0⟩, ⟨66, 86, 93, 0⟩] rfl (by decide) (by decide) (by decide) q614 (as := []) (met_X7_reads (eL E) D kk dE A _ o32003 (g 1) rv t (ma z 0) (tk (ma z 0) t 0) (tk_le (Nat.zero_le _)) ht2 23 (fun _ => 0) G0 h r hk HR0 N0 kF32024 nd32023 rfl grd g32022) grd (T := TX7) rfl (lw_V q658 q659 q660 q103 q661) cd_X7_reads rfl (Nat.le_of_ble_eq_true rfl) (Nat.le_of_ble_eq_true rfl) (Nat.le_of_ble_eq_true rfl) (Nat.le_of_ble_eq_true rfl) (Nat.le_of_ble_eq_true rfl) dX0_rivers_15 rfl (fun v32028 h32027 p32029 => ?_) (fun q32031 h32030 p32032 => ?_)
  · obtain ⟨w2, G2, er, rfl, HR2, N2, k2⟩ := p32029
    have g0 := k2 _ _ List.not_mem_nil g32001
    have grv := HR2.1.o
    refine ga_astore_n 19 C.c 1 rfl (Nat.le_of_ble_eq_true rfl) rfl dX0_rivers_18 rfl ?_
    refine ga_aload_n 20 C.c 0 rfl rfl dX0_rivers_19 rfl ?_
    refine ga_aload_n 21 C.c 1 rfl rfl dX0_rivers_20 rfl ?_
    refine hh_is 24 C grv q997 (Nat.le_of_ble_eq_true rfl) (Nat.le_of_ble_eq_true rfl) (Nat.le_of_ble_eq_true rfl) (Nat.le_of_ble_eq_true rfl) (Nat.le_of_ble_eq_true rfl) dX0_rivers_21 rfl ?_
    have e7 : (sp_fix w2 (xr_n w2 0)) 7 = w2 7 := sp_fix_lo (Or.inl (by decide))
    by_cases c32033 : (sp_fix w2 (xr_n w2 0)) 7 ≤ 0
    · rw [if_pos c32033]
      refine ga_if_eq 31 27 C.c dX0_rivers_24 (by decide) rfl (fun c32034 => ?_) (fun c32034 => absurd rfl c32034)
      refine hh_new 34 C (ci := 3) (fs := [.null, .null, .null, .null, .int 0, .int 0, .int 0, .int 0]) tyX2 tyX2_ok in_X2 q346 q347 q95 rfl (fun j hj => by rcases (show j = 0 ∨ j = 1 ∨ j = 2 ∨ j = 3 ∨ j = 4 ∨ j = 5 ∨ j = 6 ∨ j = 7 by omega) with rfl | rfl | rfl | rfl | rfl | rfl | rfl | rfl <;> rfl) (Nat.le_of_ble_eq_true rfl) (Nat.le_of_ble_eq_true rfl) dX0_rivers_31 rfl (fun o32035 h32036 n32038 a32039 e32037 => ?_)
      have k32040 := hu_fr0 e32037 n32038
      have g32041 := hu_at e32037
      clear e32037
      have ne32042 : (g 0) ≠ o32035 := hn_ne g0 n32038
      have ne32043 : rv ≠ o32035 := hn_ne grv n32038
      have g32044 := k32040 _ _ List.not_mem_nil g0
      have g32045 := k32040 _ _ List.not_mem_nil grv
      refine ga_dup 35 C.c rfl dX0_rivers_34 rfl ?_
      refine hh_callIN 38 C (as := []) (met_X2_init (eL E) D kk dE A _ o32035 g32041) q348 q349 q95 q350 rfl cd_X2_init rfl (Nat.le_of_ble_eq_true rfl) (Nat.le_of_ble_eq_true rfl) (Nat.le_of_ble_eq_true rfl) (Nat.le_of_ble_eq_true rfl) (Nat.le_of_ble_eq_true rfl) dX0_rivers_35 rfl (fun v32047 h32046 p32048 => ?_)
      obtain ⟨rfl, l0, l1, l2, l3, d0, d1, d2, yl0, yl1, yl2, yl3, yd0, yd1, yd2, p01, p02, p03, p12, p13, p23, r01, r02, r12, gb, gl0, gl1, gl2, gl3, gd0, gd1, gd2, kb⟩ := p32048
      have ne32049 : (g 0) ≠ l0 := hn_ne g32044 yl0
      have ne32050 : rv ≠ l0 := hn_ne g32045 yl0
      have ne32051 : o32035 ≠ l0 := hn_ne g32041 yl0
      have ne32052 : (g 0) ≠ l1 := hn_ne g32044 yl1
      have ne32053 : rv ≠ l1 := hn_ne g32045 yl1
      have ne32054 : o32035 ≠ l1 := hn_ne g32041 yl1
      have ne32055 : (g 0) ≠ l2 := hn_ne g32044 yl2
      have ne32056 : rv ≠ l2 := hn_ne g32045 yl2
      have ne32057 : o32035 ≠ l2 := hn_ne g32041 yl2
      have ne32058 : (g 0) ≠ l3 := hn_ne g32044 yl3
      have ne32059 : rv ≠ l3 := hn_ne g32045 yl3
      have ne32060 : o32035 ≠ l3 := hn_ne g32041 yl3
      have ne32061 : (g 0) ≠ d0 := hn_ne g32044 yd0
      have ne32062 : rv ≠ d0 := hn_ne g32045 yd0
      have ne32063 : o32035 ≠ d0 := hn_ne g32041 yd0
      have ne32064 : (g 0) ≠ d1 := hn_ne g32044 yd1
      have ne32065 : rv ≠ d1 := hn_ne g32045 yd1
      have ne32066 : o32035 ≠ d1 := hn_ne g32041 yd1
      have ne32067 : (g 0) ≠ d2 := hn_ne g32044 yd2
      have ne32068 : rv ≠ d2 := hn_ne g32045 yd2
      have ne32069 : o32035 ≠ d2 := hn_ne g32041 yd2
      have g32070 := kb _ _ (nm1 ne32042) g32044
      have g32071 := kb _ _ (nm1 ne32043) g32045
      have nd32072 : h o32035 = none := by
        cases c9 : h o32035 with
        | none => rfl
        | some e9 =>
          have b32073 := k2 o32035 e9 List.not_mem_nil c9
          rw [n32038] at b32073
          cases b32073
      have nd32074 : h l0 = none := by
        cases c9 : h l0 with
        | none => rfl
        | some e9 =>
          have b32075 := k2 l0 e9 List.not_mem_nil c9
          have b32076 := k32040 l0 e9 List.not_mem_nil b32075
          rw [yl0] at b32076
          cases b32076
      have nd32077 : h l1 = none := by
        cases c9 : h l1 with
        | none => rfl
        | some e9 =>
          have b32078 := k2 l1 e9 List.not_mem_nil c9
          have b32079 := k32040 l1 e9 List.not_mem_nil b32078
          rw [yl1] at b32079
          cases b32079
      have nd32080 : h l2 = none := by
        cases c9 : h l2 with
        | none => rfl
        | some e9 =>
          have b32081 := k2 l2 e9 List.not_mem_nil c9
          have b32082 := k32040 l2 e9 List.not_mem_nil b32081
          rw [yl2] at b32082
          cases b32082
      have nd32083 : h l3 = none := by
        cases c9 : h l3 with
        | none => rfl
        | some e9 =>
          have b32084 := k2 l3 e9 List.not_mem_nil c9
          have b32085 := k32040 l3 e9 List.not_mem_nil b32084
          rw [yl3] at b32085
          cases b32085
      have nd32086 : h d0 = none := by
        cases c9 : h d0 with
        | none => rfl
        | some e9 =>
          have b32087 := k2 d0 e9 List.not_mem_nil c9
          have b32088 := k32040 d0 e9 List.not_mem_nil b32087
          rw [yd0] at b32088
          cases b32088
      have nd32089 : h d1 = none := by
        cases c9 : h d1 with
        | none => rfl
        | some e9 =>
          have b32090 := k2 d1 e9 List.not_mem_nil c9
          have b32091 := k32040 d1 e9 List.not_mem_nil b32090
          rw [yd1] at b32091
          cases b32091
      have nd32092 : h d2 = none := by
        cases c9 : h d2 with
        | none => rfl
        | some e9 =>
          have b32093 := k2 d2 e9 List.not_mem_nil c9
          have b32094 := k32040 d2 e9 List.not_mem_nil b32093
          rw [yd2] at b32094
          cases b32094
      obtain ⟨fE, hE⟩ := X.e
      have kF32095 : hfr h h32046 [] := by
        intro b e nb hb
        have b32096 := k2 b e List.not_mem_nil hb
        have m_o32035 : b ≠ o32035 := hn_ne b32096 n32038
        have b32097 := k32040 b e List.not_mem_nil b32096
        have m_l0 : b ≠ l0 := hn_ne b32097 yl0
        have m_l1 : b ≠ l1 := hn_ne b32097 yl1
        have m_l2 : b ≠ l2 := hn_ne b32097 yl2
        have m_l3 : b ≠ l3 := hn_ne b32097 yl3
        have m_d0 : b ≠ d0 := hn_ne b32097 yd0
        have m_d1 : b ≠ d1 := hn_ne b32097 yd1
        have m_d2 : b ≠ d2 := hn_ne b32097 yd2
        have b32098 := kb b e (nm1 m_o32035) b32097
        exact b32098
      have hE5 := kF32095 _ _ List.not_mem_nil hE
      have HRn := hR_first (kk := kk) (dE := dE) (w := fun _ => 0) (fun _ _ => rfl) hE5 gb gl0 gl1 gl2 gl3 gd0 gd1 gd2 p01 p02 p03 p12 p13 p23 r01 r02 r12 (hn_ne hE nd32086).symm (hn_ne hE nd32089).symm (hn_ne hE nd32092).symm
      have en : sp_now w2 = fun _ => 0 := by
        unfold sp_now
        rw [if_pos (by rw [← e7]; exact c32033)]
      have kF32099 : hfr h h32046 [] := by
        intro b e nb hb
        have b32100 := k2 b e List.not_mem_nil hb
        have m_o32035 : b ≠ o32035 := hn_ne b32100 n32038
        have b32101 := k32040 b e List.not_mem_nil b32100
        have m_l0 : b ≠ l0 := hn_ne b32101 yl0
        have m_l1 : b ≠ l1 := hn_ne b32101 yl1
        have m_l2 : b ≠ l2 := hn_ne b32101 yl2
        have m_l3 : b ≠ l3 := hn_ne b32101 yl3
        have m_d0 : b ≠ d0 := hn_ne b32101 yd0
        have m_d1 : b ≠ d1 := hn_ne b32101 yd1
        have m_d2 : b ≠ d2 := hn_ne b32101 yd2
        have b32102 := kb b e (nm1 m_o32035) b32101
        exact b32102
      have k1 : hfr h h32046 [] := kF32099
      refine hh_put 41 1 C (ref := "QuotedRiver") (fs2 := [.ref (g 13), .ref o32035, .ref (g 14), .ref (g 1), .int (mi z 0), .int (mi z 1), .int (mi z 2), .ref (g 2), .ref (g 5), .ref (g 7), .int (mi z 3), .ref (g 9), .int (mi z 4), .ref (g 11), .ref (g 12)]) tyX0_ok nmX0 in_X0 g32070 rfl (by decide) q554 (fun _ h9 => h9) rfl (tyX0_ok 1 (by decide)) rfl rfl (Nat.le_of_ble_eq_true rfl) rfl dX0_rivers_38 rfl (fun h32103 e32104 => ?_)
      have k32105 := hu_fr e32104
      have g32106 := hu_at e32104
      clear e32104
      have g32107 := k32105 _ _ (nm1 (Ne.symm ne32042)) gb
      have Y := X.fr k1
      obtain ⟨kp, hf9⟩ := xf_now Y.f X.gi k32105 g32106
      have X2 := X.now k1 (HRn) (hnw_first nd32072 nd32074 nd32077 nd32080 nd32083 nd32086 nd32089 nd32092) kp hf9
      refine ga_aload_n 42 C.c 0 rfl rfl dX0_rivers_41 rfl ?_
      refine ga_iconst 43 C.c (v := 0) (by decide) dX0_rivers_42 rfl ?_
      refine hh_put 46 5 C (ref := "QuotedRiver") (fs2 := [.ref (g 13), .ref o32035, .ref (g 14), .ref (g 1), .int (mi z 0), .int 0, .int (mi z 2), .ref (g 2), .ref (g 5), .ref (g 7), .int (mi z 3), .ref (g 9), .int (mi z 4), .ref (g 11), .ref (g 12)]) tyX0_ok nmX0 in_X0 g32106 rfl (by decide) q558 (fun _ h9 => h9) rfl (tyX0_ok 5 (by decide)) rfl rfl (Nat.le_of_ble_eq_true rfl) rfl dX0_rivers_43 rfl (fun h32108 e32109 => ?_)
      have k32110 := hu_fr e32109
      have g32111 := hu_at e32109
      clear e32109
      have g32112 := k32110 _ _ (nm1 (Ne.symm ne32042)) g32107
      refine ga_aload_n 47 C.c 0 rfl rfl dX0_rivers_46 rfl ?_
      refine ga_iconst 48 C.c (v := (-1)) (by decide) dX0_rivers_47 rfl ?_
      refine hh_put 51 6 C (ref := "QuotedRiver") (fs2 := [.ref (g 13), .ref o32035, .ref (g 14), .ref (g 1), .int (mi z 0), .int 0, .int (-1), .ref (g 2), .ref (g 5), .ref (g 7), .int (mi z 3), .ref (g 9), .int (mi z 4), .ref (g 11), .ref (g 12)]) tyX0_ok nmX0 in_X0 g32111 rfl (by decide) q559 (fun _ h9 => h9) rfl (tyX0_ok 6 (by decide)) rfl rfl (Nat.le_of_ble_eq_true rfl) rfl dX0_rivers_48 rfl (fun h32113 e32114 => ?_)
      have k32115 := hu_fr e32114
      have g32116 := hu_at e32114
      clear e32114
      have g32117 := k32115 _ _ (nm1 (Ne.symm ne32042)) g32112
      refine ga_aload_n 52 C.c 0 rfl rfl dX0_rivers_51 rfl ?_
      refine ga_get1 55 1 C.c C.ts (own := RX0) (ref := "QuotedRiver") C.ow C.k (hw_one g32116) in_X0 rfl (by decide) q554 (fun _ h9 => h9) rfl dX0_rivers_52 rfl ?_
      refine ga_get1N 58 7 C.c C.ts (own := RX0) (ref := "QuotedRiver$Rivers") C.ow C.k (hw_one g32117) in_X2 rfl (by decide) (C.n.use q415 rfl) (fun _ h9 => h9) rfl dX0_rivers_55 rfl ?_
      refine ga_istore_n 59 C.c 2 rfl (Nat.le_of_ble_eq_true rfl) rfl dX0_rivers_58 rfl ?_
      refine ga_aload_n 60 C.c 0 rfl rfl dX0_rivers_59 rfl ?_
      refine ga_iconst 61 C.c (v := 0) (by decide) dX0_rivers_60 rfl ?_
      refine hh_put 64 4 C (ref := "QuotedRiver") (fs2 := [.ref (g 13), .ref o32035, .ref (g 14), .ref (g 1), .int 0, .int 0, .int (-1), .ref (g 2), .ref (g 5), .ref (g 7), .int (mi z 3), .ref (g 9), .int (mi z 4), .ref (g 11), .ref (g 12)]) tyX0_ok nmX0 in_X0 g32116 rfl (by decide) q557 (fun _ h9 => h9) rfl (tyX0_ok 4 (by decide)) rfl rfl (Nat.le_of_ble_eq_true rfl) rfl dX0_rivers_61 rfl (fun h32118 e32119 => ?_)
      have k32120 := hu_fr e32119
      have g32121 := hu_at e32119
      clear e32119
      have g32122 := k32120 _ _ (nm1 (Ne.symm ne32042)) g32117
      refine ga_iload_n 65 C.c 2 rfl rfl dX0_rivers_64 rfl ?_
      have kF32123 : hfr h32103 h32118 [(g 0)] := by
        intro b e nb hb
        have b32124 := k32110 b e (nm1 (nx nb (by simp))) hb
        have b32125 := k32115 b e (nm1 (nx nb (by simp))) b32124
        have b32126 := k32120 b e (nm1 (nx nb (by simp))) b32125
        exact b32126
      have X3 := X2.set (q := 0) (z2 := msi (msi (msi z 1 0) 2 (-1)) 0 0) (by decide) kF32123 g32121 rfl
      exact hx_iret C hr hlk hq rfl (Nat.le_of_ble_eq_true rfl) (Nat.le_of_ble_eq_true rfl) ⟨fun f q => (by rw [er] at q; cases q), fun w9 q => by rw [er] at q; cases q; exact ⟨o32035, _, by rw [en], by rw [en]; exact X3⟩⟩ dX0_rivers_65
    · rw [if_neg c32033]
      refine ga_if_eq 31 27 C.c dX0_rivers_24 (by decide) rfl (fun c32127 => absurd c32127 (by decide)) (fun c32127 => ?_)
      refine ga_aload_n 28 C.c 1 rfl rfl dX0_rivers_27 rfl ?_
      refine ga_goto 38 C.c dX0_rivers_28 (by decide) ?_
      have en : sp_now w2 = (sp_fix w2 (xr_n w2 0)) := by
        unfold sp_now
        rw [if_neg (by rw [← e7]; exact c32033)]
      have kF32128 : hfr h h32027 [] := by
        intro b e nb hb
        have b32129 := k2 b e List.not_mem_nil hb
        exact b32129
      have k1 : hfr h h32027 [] := kF32128
      refine hh_put 41 1 C (ref := "QuotedRiver") (fs2 := [.ref (g 13), .ref rv, .ref (g 14), .ref (g 1), .int (mi z 0), .int (mi z 1), .int (mi z 2), .ref (g 2), .ref (g 5), .ref (g 7), .int (mi z 3), .ref (g 9), .int (mi z 4), .ref (g 11), .ref (g 12)]) tyX0_ok nmX0 in_X0 g0 rfl (by decide) q554 (fun _ h9 => h9) rfl (tyX0_ok 1 (by decide)) rfl rfl (Nat.le_of_ble_eq_true rfl) rfl dX0_rivers_38 rfl (fun h32130 e32131 => ?_)
      have k32132 := hu_fr e32131
      have g32133 := hu_at e32131
      clear e32131
      have g32134 := k32132 _ _ (nm1 (hne grv g0 (by simp))) grv
      have Y := X.fr k1
      obtain ⟨kp, hf9⟩ := xf_now Y.f X.gi k32132 g32133
      have X2 := X.now k1 (HR2) (N2) kp hf9
      refine ga_aload_n 42 C.c 0 rfl rfl dX0_rivers_41 rfl ?_
      refine ga_iconst 43 C.c (v := 0) (by decide) dX0_rivers_42 rfl ?_
      refine hh_put 46 5 C (ref := "QuotedRiver") (fs2 := [.ref (g 13), .ref rv, .ref (g 14), .ref (g 1), .int (mi z 0), .int 0, .int (mi z 2), .ref (g 2), .ref (g 5), .ref (g 7), .int (mi z 3), .ref (g 9), .int (mi z 4), .ref (g 11), .ref (g 12)]) tyX0_ok nmX0 in_X0 g32133 rfl (by decide) q558 (fun _ h9 => h9) rfl (tyX0_ok 5 (by decide)) rfl rfl (Nat.le_of_ble_eq_true rfl) rfl dX0_rivers_43 rfl (fun h32135 e32136 => ?_)
      have k32137 := hu_fr e32136
      have g32138 := hu_at e32136
      clear e32136
      have g32139 := k32137 _ _ (nm1 (hne g32134 g32133 (by simp))) g32134
      refine ga_aload_n 47 C.c 0 rfl rfl dX0_rivers_46 rfl ?_
      refine ga_iconst 48 C.c (v := (-1)) (by decide) dX0_rivers_47 rfl ?_
      refine hh_put 51 6 C (ref := "QuotedRiver") (fs2 := [.ref (g 13), .ref rv, .ref (g 14), .ref (g 1), .int (mi z 0), .int 0, .int (-1), .ref (g 2), .ref (g 5), .ref (g 7), .int (mi z 3), .ref (g 9), .int (mi z 4), .ref (g 11), .ref (g 12)]) tyX0_ok nmX0 in_X0 g32138 rfl (by decide) q559 (fun _ h9 => h9) rfl (tyX0_ok 6 (by decide)) rfl rfl (Nat.le_of_ble_eq_true rfl) rfl dX0_rivers_48 rfl (fun h32140 e32141 => ?_)
      have k32142 := hu_fr e32141
      have g32143 := hu_at e32141
      clear e32141
      have g32144 := k32142 _ _ (nm1 (hne g32139 g32138 (by simp))) g32139
      refine ga_aload_n 52 C.c 0 rfl rfl dX0_rivers_51 rfl ?_
      refine ga_get1 55 1 C.c C.ts (own := RX0) (ref := "QuotedRiver") C.ow C.k (hw_one g32143) in_X0 rfl (by decide) q554 (fun _ h9 => h9) rfl dX0_rivers_52 rfl ?_
      refine ga_get1N 58 7 C.c C.ts (own := RX0) (ref := "QuotedRiver$Rivers") C.ow C.k (hw_one g32144) in_X2 rfl (by decide) (C.n.use q415 rfl) (fun _ h9 => h9) rfl dX0_rivers_55 rfl ?_
      refine ga_istore_n 59 C.c 2 rfl (Nat.le_of_ble_eq_true rfl) rfl dX0_rivers_58 rfl ?_
      refine ga_aload_n 60 C.c 0 rfl rfl dX0_rivers_59 rfl ?_
      refine ga_iconst 61 C.c (v := 0) (by decide) dX0_rivers_60 rfl ?_
      refine hh_put 64 4 C (ref := "QuotedRiver") (fs2 := [.ref (g 13), .ref rv, .ref (g 14), .ref (g 1), .int 0, .int 0, .int (-1), .ref (g 2), .ref (g 5), .ref (g 7), .int (mi z 3), .ref (g 9), .int (mi z 4), .ref (g 11), .ref (g 12)]) tyX0_ok nmX0 in_X0 g32143 rfl (by decide) q557 (fun _ h9 => h9) rfl (tyX0_ok 4 (by decide)) rfl rfl (Nat.le_of_ble_eq_true rfl) rfl dX0_rivers_61 rfl (fun h32145 e32146 => ?_)
      have k32147 := hu_fr e32146
      have g32148 := hu_at e32146
      clear e32146
      have g32149 := k32147 _ _ (nm1 (hne g32144 g32143 (by simp))) g32144
      refine ga_iload_n 65 C.c 2 rfl rfl dX0_rivers_64 rfl ?_
      have kF32150 : hfr h32130 h32145 [(g 0)] := by
        intro b e nb hb
        have b32151 := k32137 b e (nm1 (nx nb (by simp))) hb
        have b32152 := k32142 b e (nm1 (nx nb (by simp))) b32151
        have b32153 := k32147 b e (nm1 (nx nb (by simp))) b32152
        exact b32153
      have X3 := X2.set (q := 0) (z2 := msi (msi (msi z 1 0) 2 (-1)) 0 0) (by decide) kF32150 g32148 rfl
      exact hx_iret C hr hlk hq rfl (Nat.le_of_ble_eq_true rfl) (Nat.le_of_ble_eq_true rfl) ⟨fun f q => (by rw [er] at q; cases q), fun w9 q => by rw [er] at q; cases q; exact ⟨rv, G2, by rw [en], by rw [en]; exact X3⟩⟩ dX0_rivers_65
  · obtain ⟨f, er, gq, k2⟩ := p32032
    have g0 := k2 _ _ List.not_mem_nil g32001
    have gq : h32030 q32031 = some (.inr (8, [.null, .null, .null, .null, .null, .int 0, .int f.1, .int (nI f.2)])) := gq
    refine ga_astore_n 67 C.c 1 rfl (Nat.le_of_ble_eq_true rfl) rfl dX0_rivers_66 rfl ?_
    refine ga_aload_n 68 C.c 0 rfl rfl dX0_rivers_67 rfl ?_
    refine ga_aload_n 69 C.c 1 rfl rfl dX0_rivers_68 rfl ?_
    refine ga_get1N 72 6 C.c C.ts (own := RX0) (ref := "QuotedRiver$Fault") C.ow C.k (hw_one gq) in_X8 rfl (by decide) (C.n.use q753 rfl) (fun _ h9 => h9) rfl dX0_rivers_69 rfl ?_
    refine hh_put 75 5 C (ref := "QuotedRiver") (fs2 := [.ref (g 13), .ref (g 15), .ref (g 14), .ref (g 1), .int (mi z 0), .int f.1, .int (mi z 2), .ref (g 2), .ref (g 5), .ref (g 7), .int (mi z 3), .ref (g 9), .int (mi z 4), .ref (g 11), .ref (g 12)]) tyX0_ok nmX0 in_X0 g0 rfl (by decide) q558 (fun _ h9 => h9) rfl (tyX0_ok 5 (by decide)) rfl rfl (Nat.le_of_ble_eq_true rfl) rfl dX0_rivers_72 rfl (fun h32154 e32155 => ?_)
    have k32156 := hu_fr e32155
    have g32157 := hu_at e32155
    clear e32155
    have g32158 := k32156 _ _ (nm1 (hne gq g0 (by simp))) gq
    refine ga_aload_n 76 C.c 0 rfl rfl dX0_rivers_75 rfl ?_
    refine ga_aload_n 77 C.c 1 rfl rfl dX0_rivers_76 rfl ?_
    refine ga_get1N 80 7 C.c C.ts (own := RX0) (ref := "QuotedRiver$Fault") C.ow C.k (hw_one g32158) in_X8 rfl (by decide) (C.n.use q755 rfl) (fun _ h9 => h9) rfl dX0_rivers_77 rfl ?_
    refine hh_put 83 6 C (ref := "QuotedRiver") (fs2 := [.ref (g 13), .ref (g 15), .ref (g 14), .ref (g 1), .int (mi z 0), .int f.1, .int (nI f.2), .ref (g 2), .ref (g 5), .ref (g 7), .int (mi z 3), .ref (g 9), .int (mi z 4), .ref (g 11), .ref (g 12)]) tyX0_ok nmX0 in_X0 g32157 rfl (by decide) q559 (fun _ h9 => h9) rfl (tyX0_ok 6 (by decide)) rfl rfl (Nat.le_of_ble_eq_true rfl) rfl dX0_rivers_80 rfl (fun h32159 e32160 => ?_)
    have k32161 := hu_fr e32160
    have g32162 := hu_at e32160
    clear e32160
    have g32163 := k32161 _ _ (nm1 (hne g32158 g32157 (by simp))) g32158
    refine ga_bipush 85 C.c (v := (-4)) (by decide) dX0_rivers_83 rfl ?_
    refine ga_istore_n 86 C.c 2 rfl (Nat.le_of_ble_eq_true rfl) rfl dX0_rivers_85 rfl ?_
    refine ga_aload_n 87 C.c 0 rfl rfl dX0_rivers_86 rfl ?_
    refine ga_iconst 88 C.c (v := 0) (by decide) dX0_rivers_87 rfl ?_
    refine hh_put 91 4 C (ref := "QuotedRiver") (fs2 := [.ref (g 13), .ref (g 15), .ref (g 14), .ref (g 1), .int 0, .int f.1, .int (nI f.2), .ref (g 2), .ref (g 5), .ref (g 7), .int (mi z 3), .ref (g 9), .int (mi z 4), .ref (g 11), .ref (g 12)]) tyX0_ok nmX0 in_X0 g32162 rfl (by decide) q557 (fun _ h9 => h9) rfl (tyX0_ok 4 (by decide)) rfl rfl (Nat.le_of_ble_eq_true rfl) rfl dX0_rivers_88 rfl (fun h32164 e32165 => ?_)
    have k32166 := hu_fr e32165
    have g32167 := hu_at e32165
    clear e32165
    have g32168 := k32166 _ _ (nm1 (hne g32163 g32162 (by simp))) g32163
    refine ga_iload_n 92 C.c 2 rfl rfl dX0_rivers_91 rfl ?_
    have kF32169 : hfr h h32164 [(g 0)] := by
      intro b e nb hb
      have b32170 := k2 b e List.not_mem_nil hb
      have b32171 := k32156 b e (nm1 (nx nb (by simp))) b32170
      have b32172 := k32161 b e (nm1 (nx nb (by simp))) b32171
      have b32173 := k32166 b e (nm1 (nx nb (by simp))) b32172
      exact b32173
    have X2 := X.set (q := 0) (z2 := msi (msi (msi z 1 f.1) 2 (nI f.2)) 0 0) (by decide) kF32169 g32167 rfl
    exact hx_iret C hr hlk hq rfl (Nat.le_of_ble_eq_true rfl) (Nat.le_of_ble_eq_true rfl) ⟨fun f9 q => by rw [er] at q; cases q; exact ⟨rfl, X2⟩, fun w9 q => by rw [er] at q; cases q⟩ dX0_rivers_92
