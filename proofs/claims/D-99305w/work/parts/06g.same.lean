set_option maxRecDepth 100000
theorem cd_X2_same : yX2_same.cls = RX2 ∧ yX2_same.cls ≠ "java/lang/invoke/MethodHandle" ∧ yX2_same.cls ≠ "java/lang/invoke/VarHandle" ∧ (parseMethodDescriptor yX2_same.desc).map (fun d => d.parameters.length) = some 0 := by decide +kernel
set_option maxHeartbeats 4000000 in
theorem met_X2_same (l : Launch) (D : va_G) (kk : Nat → Nat) (dE : Nat → Nat) (A : Nat → Prop) (h : hG) (a : Nat) (G : XG) (w0 : Nat → Int32) (fE : Nat → Option Nat) (hRa : hR kk dE h a G w0) (hE : h (dE 0) = some (.inl (kk 5, 0, .inr (.inr (.inr (.inr fE)))))) : Met l yX2_same (ws_ yX2_same cX2_same 4 (some (.object "QuotedRiver$Rivers"))) ({ frames := 6, cells := 30, slots := 200, locals := 400 } : Room) (hw_Pc D kk dE A h [.ref a]) (hw_Qc D A (fun v h2 => ∃ b G2, v = some (.ref b) ∧ hR kk dE h2 b G2 w0 ∧ hnw h b G2 w0 ∧ hfr h h2 [])) (30) (200) A := by
  refine hw_of (RX := RX2) (lo := [some (.ref a), none, none, none]) (by decide) rfl (Nat.le_of_ble_eq_true rfl) rfl (fun E C hin hr hlk hq => ?_)
  obtain ⟨hR1, hc, hs⟩ := hRa
  have hRa : hR kk dE h a G w0 := ⟨hR1, hc, hs⟩
  have hn0 := hRa.1.n 0 (by decide)
  have hn1 := hRa.1.n 1 (by decide)
  have hn2 := hRa.1.n 2 (by decide)
  have hn3 := hRa.1.n 3 (by decide)
  obtain ⟨n0, en0⟩ : ∃ n, n = xr_n w0 0 := ⟨_, rfl⟩
  rw [← en0] at hn0
  obtain ⟨n1, en1⟩ : ∃ n, n = xr_n w0 1 := ⟨_, rfl⟩
  rw [← en1] at hn1
  obtain ⟨n2, en2⟩ : ∃ n, n = xr_n w0 2 := ⟨_, rfl⟩
  rw [← en2] at hn2
  obtain ⟨n3, en3⟩ : ∃ n, n = xr_n w0 3 := ⟨_, rfl⟩
  rw [← en3] at hn3
  have g_o := hRa.1.o
  have g_l0 : h (G.1 7 0) = some (.inr (13, [.int (G.2.2.1 0), .ref (G.1 8 0), .int (nI n0)])) := by
    rw [hRa.1.l 0 (by decide), hn0.1]
    rfl
  have g_d0 := hRa.1.d 0 (by decide)
  have g_l1 : h (G.1 7 1) = some (.inr (13, [.int (G.2.2.1 1), .ref (G.1 8 1), .int (nI n1)])) := by
    rw [hRa.1.l 1 (by decide), hn1.1]
    rfl
  have g_d1 := hRa.1.d 1 (by decide)
  have g_l2 : h (G.1 7 2) = some (.inr (13, [.int (G.2.2.1 2), .ref (G.1 8 2), .int (nI n2)])) := by
    rw [hRa.1.l 2 (by decide), hn2.1]
    rfl
  have g_d2 := hRa.1.d 2 (by decide)
  have g_l3 : h (G.1 7 3) = some (.inr (13, [.int (G.2.2.1 3), .ref (G.1 8 3), .int (nI n3)])) := by
    rw [hRa.1.l 3 (by decide), hn3.1]
    rfl
  have g_d3 := hRa.1.d 3 (by decide)
  have hb0 : n0 ≤ 10 := by rw [hc.c0] at hn0; exact hn0.2.2.1
  have hb1 : n1 ≤ 5 := by rw [hc.c1] at hn1; exact hn1.2.2.1
  have hb2 : n2 ≤ 5 := by rw [hc.c2] at hn2; exact hn2.2.2.1
  have hb3 : n3 ≤ 30 := by rw [en3]; exact hc.n3
  have hcap3 : G.2.1 3 ≤ 50 := by rcases hc.c3 with q | q <;> omega
  refine hh_new 3 C (ci := 3) (fs := [.null, .null, .null, .null, .int 0, .int 0, .int 0, .int 0]) tyX2 tyX2_ok in_X2 q1581 q347 q95 rfl (fun j hj => by rcases (show j = 0 ∨ j = 1 ∨ j = 2 ∨ j = 3 ∨ j = 4 ∨ j = 5 ∨ j = 6 ∨ j = 7 by omega) with rfl | rfl | rfl | rfl | rfl | rfl | rfl | rfl <;> rfl) (by omega) (by omega) dX2_same_0 rfl (fun o840 h841 n843 a844 e842 => ?_)
  have k845 := hu_fr0 e842 n843
  have g846 := hu_at e842
  clear e842
  have ne847 : a ≠ o840 := hn_ne g_o n843
  have ne848 : (G.1 7 0) ≠ o840 := hn_ne g_l0 n843
  have ne849 : (G.1 8 0) ≠ o840 := hn_ne g_d0 n843
  have ne850 : (G.1 7 1) ≠ o840 := hn_ne g_l1 n843
  have ne851 : (G.1 8 1) ≠ o840 := hn_ne g_d1 n843
  have ne852 : (G.1 7 2) ≠ o840 := hn_ne g_l2 n843
  have ne853 : (G.1 8 2) ≠ o840 := hn_ne g_d2 n843
  have ne854 : (G.1 7 3) ≠ o840 := hn_ne g_l3 n843
  have ne855 : (G.1 8 3) ≠ o840 := hn_ne g_d3 n843
  have ne856 : (dE 0) ≠ o840 := hn_ne hE n843
  have g857 := k845 _ _ List.not_mem_nil g_o
  have g858 := k845 _ _ List.not_mem_nil g_l0
  have g859 := k845 _ _ List.not_mem_nil g_d0
  have g860 := k845 _ _ List.not_mem_nil g_l1
  have g861 := k845 _ _ List.not_mem_nil g_d1
  have g862 := k845 _ _ List.not_mem_nil g_l2
  have g863 := k845 _ _ List.not_mem_nil g_d2
  have g864 := k845 _ _ List.not_mem_nil g_l3
  have g865 := k845 _ _ List.not_mem_nil g_d3
  have g866 := k845 _ _ List.not_mem_nil hE
  refine ga_dup 4 C.c rfl dX2_same_3 rfl ?_
  refine hh_callI 7 C (as := []) (met_X2_init (eL E) D kk dE A _ o840 g846) q1582 q349 q95 q350 rfl cd_X2_init rfl (Nat.le_of_ble_eq_true rfl) (Nat.le_of_ble_eq_true rfl) (by omega) (by omega) (Nat.le_of_ble_eq_true rfl) dX2_same_4 rfl (fun v868 h867 p869 => ?_)
  obtain ⟨rfl, l0, l1, l2, l3, d0, d1, d2, yl0, yl1, yl2, yl3, yd0, yd1, yd2, p01, p02, p03, p12, p13, p23, r01, r02, r12, gb, gl0, gl1, gl2, gl3, gd0, gd1, gd2, kb⟩ := p869
  have ne870 : a ≠ l0 := hn_ne g857 yl0
  have ne871 : (G.1 7 0) ≠ l0 := hn_ne g858 yl0
  have ne872 : (G.1 8 0) ≠ l0 := hn_ne g859 yl0
  have ne873 : (G.1 7 1) ≠ l0 := hn_ne g860 yl0
  have ne874 : (G.1 8 1) ≠ l0 := hn_ne g861 yl0
  have ne875 : (G.1 7 2) ≠ l0 := hn_ne g862 yl0
  have ne876 : (G.1 8 2) ≠ l0 := hn_ne g863 yl0
  have ne877 : (G.1 7 3) ≠ l0 := hn_ne g864 yl0
  have ne878 : (G.1 8 3) ≠ l0 := hn_ne g865 yl0
  have ne879 : (dE 0) ≠ l0 := hn_ne g866 yl0
  have ne880 : o840 ≠ l0 := hn_ne g846 yl0
  have ne881 : a ≠ l1 := hn_ne g857 yl1
  have ne882 : (G.1 7 0) ≠ l1 := hn_ne g858 yl1
  have ne883 : (G.1 8 0) ≠ l1 := hn_ne g859 yl1
  have ne884 : (G.1 7 1) ≠ l1 := hn_ne g860 yl1
  have ne885 : (G.1 8 1) ≠ l1 := hn_ne g861 yl1
  have ne886 : (G.1 7 2) ≠ l1 := hn_ne g862 yl1
  have ne887 : (G.1 8 2) ≠ l1 := hn_ne g863 yl1
  have ne888 : (G.1 7 3) ≠ l1 := hn_ne g864 yl1
  have ne889 : (G.1 8 3) ≠ l1 := hn_ne g865 yl1
  have ne890 : (dE 0) ≠ l1 := hn_ne g866 yl1
  have ne891 : o840 ≠ l1 := hn_ne g846 yl1
  have ne892 : a ≠ l2 := hn_ne g857 yl2
  have ne893 : (G.1 7 0) ≠ l2 := hn_ne g858 yl2
  have ne894 : (G.1 8 0) ≠ l2 := hn_ne g859 yl2
  have ne895 : (G.1 7 1) ≠ l2 := hn_ne g860 yl2
  have ne896 : (G.1 8 1) ≠ l2 := hn_ne g861 yl2
  have ne897 : (G.1 7 2) ≠ l2 := hn_ne g862 yl2
  have ne898 : (G.1 8 2) ≠ l2 := hn_ne g863 yl2
  have ne899 : (G.1 7 3) ≠ l2 := hn_ne g864 yl2
  have ne900 : (G.1 8 3) ≠ l2 := hn_ne g865 yl2
  have ne901 : (dE 0) ≠ l2 := hn_ne g866 yl2
  have ne902 : o840 ≠ l2 := hn_ne g846 yl2
  have ne903 : a ≠ l3 := hn_ne g857 yl3
  have ne904 : (G.1 7 0) ≠ l3 := hn_ne g858 yl3
  have ne905 : (G.1 8 0) ≠ l3 := hn_ne g859 yl3
  have ne906 : (G.1 7 1) ≠ l3 := hn_ne g860 yl3
  have ne907 : (G.1 8 1) ≠ l3 := hn_ne g861 yl3
  have ne908 : (G.1 7 2) ≠ l3 := hn_ne g862 yl3
  have ne909 : (G.1 8 2) ≠ l3 := hn_ne g863 yl3
  have ne910 : (G.1 7 3) ≠ l3 := hn_ne g864 yl3
  have ne911 : (G.1 8 3) ≠ l3 := hn_ne g865 yl3
  have ne912 : (dE 0) ≠ l3 := hn_ne g866 yl3
  have ne913 : o840 ≠ l3 := hn_ne g846 yl3
  have ne914 : a ≠ d0 := hn_ne g857 yd0
  have ne915 : (G.1 7 0) ≠ d0 := hn_ne g858 yd0
  have ne916 : (G.1 8 0) ≠ d0 := hn_ne g859 yd0
  have ne917 : (G.1 7 1) ≠ d0 := hn_ne g860 yd0
  have ne918 : (G.1 8 1) ≠ d0 := hn_ne g861 yd0
  have ne919 : (G.1 7 2) ≠ d0 := hn_ne g862 yd0
  have ne920 : (G.1 8 2) ≠ d0 := hn_ne g863 yd0
  have ne921 : (G.1 7 3) ≠ d0 := hn_ne g864 yd0
  have ne922 : (G.1 8 3) ≠ d0 := hn_ne g865 yd0
  have ne923 : (dE 0) ≠ d0 := hn_ne g866 yd0
  have ne924 : o840 ≠ d0 := hn_ne g846 yd0
  have ne925 : a ≠ d1 := hn_ne g857 yd1
  have ne926 : (G.1 7 0) ≠ d1 := hn_ne g858 yd1
  have ne927 : (G.1 8 0) ≠ d1 := hn_ne g859 yd1
  have ne928 : (G.1 7 1) ≠ d1 := hn_ne g860 yd1
  have ne929 : (G.1 8 1) ≠ d1 := hn_ne g861 yd1
  have ne930 : (G.1 7 2) ≠ d1 := hn_ne g862 yd1
  have ne931 : (G.1 8 2) ≠ d1 := hn_ne g863 yd1
  have ne932 : (G.1 7 3) ≠ d1 := hn_ne g864 yd1
  have ne933 : (G.1 8 3) ≠ d1 := hn_ne g865 yd1
  have ne934 : (dE 0) ≠ d1 := hn_ne g866 yd1
  have ne935 : o840 ≠ d1 := hn_ne g846 yd1
  have ne936 : a ≠ d2 := hn_ne g857 yd2
  have ne937 : (G.1 7 0) ≠ d2 := hn_ne g858 yd2
  have ne938 : (G.1 8 0) ≠ d2 := hn_ne g859 yd2
  have ne939 : (G.1 7 1) ≠ d2 := hn_ne g860 yd2
  have ne940 : (G.1 8 1) ≠ d2 := hn_ne g861 yd2
  have ne941 : (G.1 7 2) ≠ d2 := hn_ne g862 yd2
  have ne942 : (G.1 8 2) ≠ d2 := hn_ne g863 yd2
  have ne943 : (G.1 7 3) ≠ d2 := hn_ne g864 yd2
  have ne944 : (G.1 8 3) ≠ d2 := hn_ne g865 yd2
  have ne945 : (dE 0) ≠ d2 := hn_ne g866 yd2
  have ne946 : o840 ≠ d2 := hn_ne g846 yd2
  have g947 := kb _ _ (nm1 ne847) g857
  have g948 := kb _ _ (nm1 ne848) g858
  have g949 := kb _ _ (nm1 ne849) g859
  have g950 := kb _ _ (nm1 ne850) g860
  have g951 := kb _ _ (nm1 ne851) g861
  have g952 := kb _ _ (nm1 ne852) g862
  have g953 := kb _ _ (nm1 ne853) g863
  have g954 := kb _ _ (nm1 ne854) g864
  have g955 := kb _ _ (nm1 ne855) g865
  have g956 := kb _ _ (nm1 ne856) g866
  refine ga_astore_n 8 C.c 1 rfl (Nat.le_of_ble_eq_true rfl) rfl dX2_same_7 rfl ?_
  refine ga_aload_n 9 C.c 0 rfl rfl dX2_same_8 rfl ?_
  refine ga_get1 12 0 C.c C.ts (own := RX2) (ref := "QuotedRiver$Rivers") C.ow C.k (hw_one g947) in_X2 rfl (by decide) q388 (fun _ h9 => h9) rfl dX2_same_9 rfl ?_
  refine hh_callF 17 C (as := []) (met_J2_iterator (eL E) D kk dE A _ (G.1 7 0) (G.1 8 0) (G.2.2.1 0) (nI n0) g948) g948 (T := TJ2) rfl (C.f _ (List.mem_of_getElem? (i := 4) rfl)) (lw_F q1584 q950 q952 q98 q954) cdL_iterator rfl (Nat.le_of_ble_eq_true rfl) (Nat.le_of_ble_eq_true rfl) (by omega) (by omega) (Nat.le_of_ble_eq_true rfl) dX2_same_12 rfl (fun v958 h957 p959 => ?_)
  obtain ⟨q, nq, rfl, gq, kq⟩ := p959
  have ne960 : a ≠ q := hn_ne g947 nq
  have ne961 : (G.1 7 0) ≠ q := hn_ne g948 nq
  have ne962 : (G.1 8 0) ≠ q := hn_ne g949 nq
  have ne963 : (G.1 7 1) ≠ q := hn_ne g950 nq
  have ne964 : (G.1 8 1) ≠ q := hn_ne g951 nq
  have ne965 : (G.1 7 2) ≠ q := hn_ne g952 nq
  have ne966 : (G.1 8 2) ≠ q := hn_ne g953 nq
  have ne967 : (G.1 7 3) ≠ q := hn_ne g954 nq
  have ne968 : (G.1 8 3) ≠ q := hn_ne g955 nq
  have ne969 : (dE 0) ≠ q := hn_ne g956 nq
  have ne970 : o840 ≠ q := hn_ne gb nq
  have ne971 : l0 ≠ q := hn_ne gl0 nq
  have ne972 : l1 ≠ q := hn_ne gl1 nq
  have ne973 : l2 ≠ q := hn_ne gl2 nq
  have ne974 : l3 ≠ q := hn_ne gl3 nq
  have ne975 : d0 ≠ q := hn_ne gd0 nq
  have ne976 : d1 ≠ q := hn_ne gd1 nq
  have ne977 : d2 ≠ q := hn_ne gd2 nq
  have g978 := kq _ _ List.not_mem_nil g947
  have g979 := kq _ _ List.not_mem_nil g948
  have g980 := kq _ _ List.not_mem_nil g949
  have g981 := kq _ _ List.not_mem_nil g950
  have g982 := kq _ _ List.not_mem_nil g951
  have g983 := kq _ _ List.not_mem_nil g952
  have g984 := kq _ _ List.not_mem_nil g953
  have g985 := kq _ _ List.not_mem_nil g954
  have g986 := kq _ _ List.not_mem_nil g955
  have g987 := kq _ _ List.not_mem_nil g956
  have g988 := kq _ _ List.not_mem_nil gb
  have g989 := kq _ _ List.not_mem_nil gl0
  have g990 := kq _ _ List.not_mem_nil gl1
  have g991 := kq _ _ List.not_mem_nil gl2
  have g992 := kq _ _ List.not_mem_nil gl3
  have g993 := kq _ _ List.not_mem_nil gd0
  have g994 := kq _ _ List.not_mem_nil gd1
  have g995 := kq _ _ List.not_mem_nil gd2
  refine ga_astore_n 18 C.c 2 rfl (Nat.le_of_ble_eq_true rfl) rfl dX2_same_17 rfl ?_
  have nd996 : h o840 = none := by
    cases c9 : h o840 with
    | none => rfl
    | some e9 =>
      rw [n843] at c9
      cases c9
  have nd997 : h l0 = none := by
    cases c9 : h l0 with
    | none => rfl
    | some e9 =>
      have b998 := k845 l0 e9 List.not_mem_nil c9
      rw [yl0] at b998
      cases b998
  have nd999 : h l1 = none := by
    cases c9 : h l1 with
    | none => rfl
    | some e9 =>
      have b1000 := k845 l1 e9 List.not_mem_nil c9
      rw [yl1] at b1000
      cases b1000
  have nd1001 : h l2 = none := by
    cases c9 : h l2 with
    | none => rfl
    | some e9 =>
      have b1002 := k845 l2 e9 List.not_mem_nil c9
      rw [yl2] at b1002
      cases b1002
  have nd1003 : h l3 = none := by
    cases c9 : h l3 with
    | none => rfl
    | some e9 =>
      have b1004 := k845 l3 e9 List.not_mem_nil c9
      rw [yl3] at b1004
      cases b1004
  have nd1005 : h d0 = none := by
    cases c9 : h d0 with
    | none => rfl
    | some e9 =>
      have b1006 := k845 d0 e9 List.not_mem_nil c9
      rw [yd0] at b1006
      cases b1006
  have nd1007 : h d1 = none := by
    cases c9 : h d1 with
    | none => rfl
    | some e9 =>
      have b1008 := k845 d1 e9 List.not_mem_nil c9
      rw [yd1] at b1008
      cases b1008
  have nd1009 : h d2 = none := by
    cases c9 : h d2 with
    | none => rfl
    | some e9 =>
      have b1010 := k845 d2 e9 List.not_mem_nil c9
      rw [yd2] at b1010
      cases b1010
  have nd1011 : h q = none := by
    cases c9 : h q with
    | none => rfl
    | some e9 =>
      have b1012 := k845 q e9 List.not_mem_nil c9
      have b1013 := kb q e9 (nm1 (Ne.symm ne970)) b1012
      rw [nq] at b1013
      cases b1013
  have kF1014 : hfr h h957 [] := by
    intro b e nb hb
    have m_o840 : b ≠ o840 := hn_ne hb n843
    have b1015 := k845 b e List.not_mem_nil hb
    have m_l0 : b ≠ l0 := hn_ne b1015 yl0
    have m_l1 : b ≠ l1 := hn_ne b1015 yl1
    have m_l2 : b ≠ l2 := hn_ne b1015 yl2
    have m_l3 : b ≠ l3 := hn_ne b1015 yl3
    have m_d0 : b ≠ d0 := hn_ne b1015 yd0
    have m_d1 : b ≠ d1 := hn_ne b1015 yd1
    have m_d2 : b ≠ d2 := hn_ne b1015 yd2
    have b1016 := kb b e (nm1 m_o840) b1015
    have m_q : b ≠ q := hn_ne b1016 nq
    have b1017 := kq b e List.not_mem_nil b1016
    exact b1017
  have loop : ∀ (k i : Nat) (hx : hG) (mx lr : Int32) (f : Nat → Option Nat) (R : Nat → Nat), i + k = n0 → hx o840 = some (.inr (3, [.ref l0, .ref l1, .ref l2, .ref l3, .int 0, .int 0, .int 0, .int 0])) → hx l0 = some (.inr (13, [.int mx, .ref d0, .int (nI i)])) → hx l1 = some (.inr (13, [.int 0, .ref d1, .int 0])) → hx l2 = some (.inr (13, [.int 0, .ref d2, .int 0])) → hx l3 = some (.inr (13, [.int 0, .ref (dE 0), .int 0])) → hx d0 = some (.inl (kk 5, 10, .inr (.inr (.inr (.inr f))))) → hx d1 = some (.inl (kk 5, 5, .inr (.inr (.inr (.inr (fun _ => none)))))) → hx d2 = some (.inl (kk 5, 5, .inr (.inr (.inr (.inr (fun _ => none)))))) → hx q = some (.inr (14, [.int (nI i), .int lr, .int (G.2.2.1 0), .ref (G.1 7 0)])) → (∀ j, j < i → f j = some (R j) ∧ hx (R j) = some (.inr (9, [.int (w0 (8 + 3 * j)), .int (w0 (9 + 3 * j)), .int (w0 (10 + 3 * j))])) ∧ h (R j) = none) → (∀ j j2, j < i → j2 < i → j ≠ j2 → R j ≠ R j2) → hfr h hx [] → ga_W E 4 (hw_I E D A hx) (0 + 1 + 7 + 1 + i) (0 + 8 + 32 + 4 + 3 * i) 18 [some (.ref a), some (.ref o840), some (.ref q), none] [] := by
    intro k
    induction k with
    | zero =>
      intro i hx mx lr f R hi Go840 Gl0 Gl1 Gl2 Gl3 Gd0 Gd1 Gd2 Gq hRj hRd kx
      have g1018 := kx _ _ List.not_mem_nil g_o
      have g1019 := kx _ _ List.not_mem_nil g_l0
      have g1020 := kx _ _ List.not_mem_nil g_d0
      have g1021 := kx _ _ List.not_mem_nil g_l1
      have g1022 := kx _ _ List.not_mem_nil g_d1
      have g1023 := kx _ _ List.not_mem_nil g_l2
      have g1024 := kx _ _ List.not_mem_nil g_d2
      have g1025 := kx _ _ List.not_mem_nil g_l3
      have g1026 := kx _ _ List.not_mem_nil g_d3
      have g1027 := kx _ _ List.not_mem_nil hE
      refine ga_aload_n 19 C.c 2 rfl rfl dX2_same_18 rfl ?_
      refine hh_callF 24 C (as := []) (met_J13_hasNext (eL E) D kk dE A _ q (G.1 7 0) (G.1 8 0) (nI i) lr (G.2.2.1 0) (G.2.2.1 0) (nI n0) Gq g1019) Gq (T := TJ13) rfl (C.f _ (List.mem_of_getElem? (i := 6) rfl)) (lw_F q1586 q979 q981 q119 q983) cdL_hasNext rfl (Nat.le_of_ble_eq_true rfl) (Nat.le_of_ble_eq_true rfl) (by omega) (by omega) (Nat.le_of_ble_eq_true rfl) dX2_same_19 rfl (fun v1029 h1028 p1030 => ?_)
      obtain ⟨rfl, e1031⟩ := p1030
      have e1031 := e1031.symm
      subst e1031
      have rne : ∀ j, j < i → ∀ (x : Nat) (e : va_E), hx x = some e → some e ≠ some (.inr (9, [.int (w0 (8 + 3 * j)), .int (w0 (9 + 3 * j)), .int (w0 (10 + 3 * j))])) → R j ≠ x := fun j hj x e gx hn q => hn (by rw [← gx, ← q, (hRj j hj).2.1])
      obtain rfl : i = n0 := by omega
      rw [if_pos rfl]
      refine ga_if_eq 54 27 C.c dX2_same_24 (by decide) rfl (fun c1032 => ?_) (fun c1032 => absurd rfl c1032)
      refine ga_aload_n 55 C.c 1 rfl rfl dX2_same_54 rfl ?_
      refine ga_get1 58 1 C.c C.ts (own := RX2) (ref := "QuotedRiver$Rivers") C.ow C.k (hw_one Go840) in_X2 rfl (by decide) q391 (fun _ h9 => h9) rfl dX2_same_55 rfl ?_
      refine ga_aload_n 59 C.c 0 rfl rfl dX2_same_58 rfl ?_
      refine ga_get1 62 1 C.c C.ts (own := RX2) (ref := "QuotedRiver$Rivers") C.ow C.k (hw_one g1018) in_X2 rfl (by decide) q391 (fun _ h9 => h9) rfl dX2_same_59 rfl ?_
      have kF1033 : hfr h hx [] := by
        intro b e nb hb
        have m_o840 : b ≠ o840 := hn_ne hb nd996
        have m_l0 : b ≠ l0 := hn_ne hb nd997
        have m_l1 : b ≠ l1 := hn_ne hb nd999
        have m_l2 : b ≠ l2 := hn_ne hb nd1001
        have m_l3 : b ≠ l3 := hn_ne hb nd1003
        have m_d0 : b ≠ d0 := hn_ne hb nd1005
        have m_d1 : b ≠ d1 := hn_ne hb nd1007
        have m_d2 : b ≠ d2 := hn_ne hb nd1009
        have m_q : b ≠ q := hn_ne hb nd1011
        have b1034 := kx b e List.not_mem_nil hb
        exact b1034
      have hel1 : ∀ x : Nat, x < n1 → ∀ y : Nat, G.2.2.2 1 x = some y → hel hx y := fun x hx2 y hy => by
        rw [hn1.2.2.2 x hx2] at hy
        cases hy
        rw [en1] at hx2
        exact ⟨10, _, kF1033 _ _ List.not_mem_nil (hR1.j x hx2), by omega, by omega⟩
      have hne1 : ∀ x : Nat, x < n1 → ∀ y : Nat, G.2.2.2 1 x = some y → y ≠ l1 := fun x hx2 y hy => by
        rw [hn1.2.2.2 x hx2] at hy
        cases hy
        rw [en1] at hx2
        exact hn_ne (hR1.j x hx2) nd999
      refine hh_callF 67 C (as := [.ref (G.1 7 1)]) (met_J2_addAll (eL E) D kk dE A _ l1 d1 5 (fun _ => none) 0 (by decide) (G.1 7 1) (G.1 8 1) (G.2.1 1) n1 (G.2.2.2 1) (G.2.2.1 1) hn1.2.2.1 (by rw [hc.c1]; omega) hel1 hne1 hb1 (Ne.symm ne884) (Ne.symm ne929) Gl1 Gd1 g1021 g1022) Gl1 (T := TJ2) rfl (C.f _ (List.mem_of_getElem? (i := 1) rfl)) (lw_F q1599 q1602 q1604 q98 q1606) cdL_addAll rfl (Nat.le_of_ble_eq_true rfl) (Nat.le_of_ble_eq_true rfl) (by omega) (by omega) (Nat.le_of_ble_eq_true rfl) dX2_same_62 rfl (fun v1036 h1035 p1037 => ?_)
      obtain ⟨x1, f1, rfl, al1, ad1, af1, ak1⟩ := p1037
      have g1038 := ak1 _ _ (nm2 ne881 ne925) g1018
      have g1039 := ak1 _ _ (nm2 ne882 ne926) g1019
      have g1040 := ak1 _ _ (nm2 ne883 ne927) g1020
      have g1041 := ak1 _ _ (nm2 ne884 ne928) g1021
      have g1042 := ak1 _ _ (nm2 ne885 ne929) g1022
      have g1043 := ak1 _ _ (nm2 ne886 ne930) g1023
      have g1044 := ak1 _ _ (nm2 ne887 ne931) g1024
      have g1045 := ak1 _ _ (nm2 ne888 ne932) g1025
      have g1046 := ak1 _ _ (nm2 ne889 ne933) g1026
      have g1047 := ak1 _ _ (nm2 ne890 ne934) g1027
      have g1048 := ak1 _ _ (nm2 ne891 ne935) Go840
      have g1049 := ak1 _ _ (nm2 p01 (hne Gl0 Gd1 (by simp))) Gl0
      have g1050 := ak1 _ _ (nm2 (Ne.symm p12) (hne Gl2 Gd1 (by simp))) Gl2
      have g1051 := ak1 _ _ (nm2 (Ne.symm p13) (hne Gl3 Gd1 (by simp))) Gl3
      have g1052 := ak1 _ _ (nm2 (hne Gd0 Gl1 (by simp)) r01) Gd0
      have g1053 := ak1 _ _ (nm2 (hne Gd2 Gl1 (by simp)) (Ne.symm r12)) Gd2
      have g1054 := ak1 _ _ (nm2 (Ne.symm ne972) (Ne.symm ne976)) Gq
      refine ga_pop 68 C.c rfl dX2_same_67 rfl ?_
      refine ga_aload_n 69 C.c 1 rfl rfl dX2_same_68 rfl ?_
      refine ga_get1 72 2 C.c C.ts (own := RX2) (ref := "QuotedRiver$Rivers") C.ow C.k (hw_one g1048) in_X2 rfl (by decide) q395 (fun _ h9 => h9) rfl dX2_same_69 rfl ?_
      refine ga_aload_n 73 C.c 0 rfl rfl dX2_same_72 rfl ?_
      refine ga_get1 76 2 C.c C.ts (own := RX2) (ref := "QuotedRiver$Rivers") C.ow C.k (hw_one g1038) in_X2 rfl (by decide) q395 (fun _ h9 => h9) rfl dX2_same_73 rfl ?_
      have kF1055 : hfr h h1035 [] := by
        intro b e nb hb
        have m_o840 : b ≠ o840 := hn_ne hb nd996
        have m_l0 : b ≠ l0 := hn_ne hb nd997
        have m_l1 : b ≠ l1 := hn_ne hb nd999
        have m_l2 : b ≠ l2 := hn_ne hb nd1001
        have m_l3 : b ≠ l3 := hn_ne hb nd1003
        have m_d0 : b ≠ d0 := hn_ne hb nd1005
        have m_d1 : b ≠ d1 := hn_ne hb nd1007
        have m_d2 : b ≠ d2 := hn_ne hb nd1009
        have m_q : b ≠ q := hn_ne hb nd1011
        have b1056 := kx b e List.not_mem_nil hb
        have b1057 := ak1 b e (nm2 m_l1 m_d1) b1056
        exact b1057
      have hel2 : ∀ x : Nat, x < n2 → ∀ y : Nat, G.2.2.2 2 x = some y → hel h1035 y := fun x hx2 y hy => by
        rw [hn2.2.2.2 x hx2] at hy
        cases hy
        rw [en2] at hx2
        exact ⟨11, _, kF1055 _ _ List.not_mem_nil (hR1.s x hx2), by omega, by omega⟩
      have hne2 : ∀ x : Nat, x < n2 → ∀ y : Nat, G.2.2.2 2 x = some y → y ≠ l2 := fun x hx2 y hy => by
        rw [hn2.2.2.2 x hx2] at hy
        cases hy
        rw [en2] at hx2
        exact hn_ne (hR1.s x hx2) nd1001
      refine hh_callF 81 C (as := [.ref (G.1 7 2)]) (met_J2_addAll (eL E) D kk dE A _ l2 d2 5 (fun _ => none) 0 (by decide) (G.1 7 2) (G.1 8 2) (G.2.1 2) n2 (G.2.2.2 2) (G.2.2.1 2) hn2.2.2.1 (by rw [hc.c2]; omega) hel2 hne2 hb2 (Ne.symm ne897) (Ne.symm ne942) g1050 g1053 g1043 g1044) g1050 (T := TJ2) rfl (C.f _ (List.mem_of_getElem? (i := 1) rfl)) (lw_F q1599 q1602 q1604 q98 q1606) cdL_addAll rfl (Nat.le_of_ble_eq_true rfl) (Nat.le_of_ble_eq_true rfl) (by omega) (by omega) (Nat.le_of_ble_eq_true rfl) dX2_same_76 rfl (fun v1059 h1058 p1060 => ?_)
      obtain ⟨x2, f2, rfl, al2, ad2, af2, ak2⟩ := p1060
      have g1061 := ak2 _ _ (nm2 ne892 ne936) g1038
      have g1062 := ak2 _ _ (nm2 ne893 ne937) g1039
      have g1063 := ak2 _ _ (nm2 ne894 ne938) g1040
      have g1064 := ak2 _ _ (nm2 ne895 ne939) g1041
      have g1065 := ak2 _ _ (nm2 ne896 ne940) g1042
      have g1066 := ak2 _ _ (nm2 ne897 ne941) g1043
      have g1067 := ak2 _ _ (nm2 ne898 ne942) g1044
      have g1068 := ak2 _ _ (nm2 ne899 ne943) g1045
      have g1069 := ak2 _ _ (nm2 ne900 ne944) g1046
      have g1070 := ak2 _ _ (nm2 ne901 ne945) g1047
      have g1071 := ak2 _ _ (nm2 ne902 ne946) g1048
      have g1072 := ak2 _ _ (nm2 p02 (hne g1049 g1053 (by simp))) g1049
      have g1073 := ak2 _ _ (nm2 p12 (hne al1 g1053 (by simp))) al1
      have g1074 := ak2 _ _ (nm2 (Ne.symm p23) (hne g1051 g1053 (by simp))) g1051
      have g1075 := ak2 _ _ (nm2 (hne g1052 g1050 (by simp)) r02) g1052
      have g1076 := ak2 _ _ (nm2 (hne ad1 g1050 (by simp)) r12) ad1
      have g1077 := ak2 _ _ (nm2 (Ne.symm ne973) (Ne.symm ne977)) g1054
      refine ga_pop 82 C.c rfl dX2_same_81 rfl ?_
      refine ga_aload_n 83 C.c 1 rfl rfl dX2_same_82 rfl ?_
      refine ga_get1 86 3 C.c C.ts (own := RX2) (ref := "QuotedRiver$Rivers") C.ow C.k (hw_one g1071) in_X2 rfl (by decide) q399 (fun _ h9 => h9) rfl dX2_same_83 rfl ?_
      refine ga_aload_n 87 C.c 0 rfl rfl dX2_same_86 rfl ?_
      refine ga_get1 90 3 C.c C.ts (own := RX2) (ref := "QuotedRiver$Rivers") C.ow C.k (hw_one g1061) in_X2 rfl (by decide) q399 (fun _ h9 => h9) rfl dX2_same_87 rfl ?_
      have hmx3 : ls_mx n3 ≤ 30 := by unfold ls_mx; split <;> omega
      have kF1078 : hfr h h1058 [] := by
        intro b e nb hb
        have m_o840 : b ≠ o840 := hn_ne hb nd996
        have m_l0 : b ≠ l0 := hn_ne hb nd997
        have m_l1 : b ≠ l1 := hn_ne hb nd999
        have m_l2 : b ≠ l2 := hn_ne hb nd1001
        have m_l3 : b ≠ l3 := hn_ne hb nd1003
        have m_d0 : b ≠ d0 := hn_ne hb nd1005
        have m_d1 : b ≠ d1 := hn_ne hb nd1007
        have m_d2 : b ≠ d2 := hn_ne hb nd1009
        have m_q : b ≠ q := hn_ne hb nd1011
        have b1079 := kx b e List.not_mem_nil hb
        have b1080 := ak1 b e (nm2 m_l1 m_d1) b1079
        have b1081 := ak2 b e (nm2 m_l2 m_d2) b1080
        exact b1081
      have hel3 : ∀ x : Nat, x < n3 → ∀ y : Nat, G.2.2.2 3 x = some y → hel h1058 y := fun x hx2 y hy => by
        rw [hn3.2.2.2 x hx2] at hy
        cases hy
        rw [en3] at hx2
        have hh := hR1.a x hx2
        by_cases c9 : 100 ≤ w0 (68 + x)
        · exact ⟨12, _, kF1078 _ _ List.not_mem_nil (hh.1 c9).1, by omega, by omega⟩
        · exact ⟨12, _, kF1078 _ _ List.not_mem_nil (hh.2 c9), by omega, by omega⟩
      have hne3 : ∀ x : Nat, x < n3 → ∀ y : Nat, G.2.2.2 3 x = some y → y ≠ l3 := fun x hx2 y hy => by
        rw [hn3.2.2.2 x hx2] at hy
        cases hy
        rw [en3] at hx2
        have hh := hR1.a x hx2
        by_cases c9 : 100 ≤ w0 (68 + x)
        · exact hn_ne (hh.1 c9).1 nd1003
        · exact hn_ne (hh.2 c9) nd1003
      refine hh_callF 95 C (as := [.ref (G.1 7 3)]) (met_J2_addAll_g (eL E) D kk dE A _ l3 fE 0 (G.1 7 3) (G.1 8 3) (G.2.1 3) n3 (G.2.2.2 3) (G.2.2.1 3) hn3.2.2.1 (by omega) hel3 hne3 (Ne.symm ne910) (Decidable.em _) g1074 g1070 g1068 g1069) g1074 (T := TJ2) rfl (C.f _ (List.mem_of_getElem? (i := 1) rfl)) (lw_F q1599 q1602 q1604 q98 q1606) cdL_addAll rfl (Nat.le_of_ble_eq_true rfl) (Nat.le_of_ble_eq_true rfl) (by omega) (by omega) (Nat.le_of_ble_eq_true rfl) dX2_same_90 rfl (fun v1083 h1082 p1084 => ?_)
      obtain ⟨x3, d3, f3, c3, rfl, al3, ad3, af3, ao3, ak3⟩ := p1084
      have g1085 := ak3 _ _ (nm1 ne903) g1061
      have g1086 := ak3 _ _ (nm1 ne904) g1062
      have g1087 := ak3 _ _ (nm1 ne905) g1063
      have g1088 := ak3 _ _ (nm1 ne906) g1064
      have g1089 := ak3 _ _ (nm1 ne907) g1065
      have g1090 := ak3 _ _ (nm1 ne908) g1066
      have g1091 := ak3 _ _ (nm1 ne909) g1067
      have g1092 := ak3 _ _ (nm1 ne910) g1068
      have g1093 := ak3 _ _ (nm1 ne911) g1069
      have g1094 := ak3 _ _ (nm1 ne912) g1070
      have g1095 := ak3 _ _ (nm1 ne913) g1071
      have g1096 := ak3 _ _ (nm1 p03) g1072
      have g1097 := ak3 _ _ (nm1 p13) g1073
      have g1098 := ak3 _ _ (nm1 p23) al2
      have g1099 := ak3 _ _ (nm1 (hne g1075 g1074 (by simp))) g1075
      have g1100 := ak3 _ _ (nm1 (hne g1076 g1074 (by simp))) g1076
      have g1101 := ak3 _ _ (nm1 (hne ad2 g1074 (by simp))) ad2
      have g1102 := ak3 _ _ (nm1 (Ne.symm ne974)) g1077
      have kF1103 : hfr h h1082 [] := by
        intro b e nb hb
        have m_o840 : b ≠ o840 := hn_ne hb nd996
        have m_l0 : b ≠ l0 := hn_ne hb nd997
        have m_l1 : b ≠ l1 := hn_ne hb nd999
        have m_l2 : b ≠ l2 := hn_ne hb nd1001
        have m_l3 : b ≠ l3 := hn_ne hb nd1003
        have m_d0 : b ≠ d0 := hn_ne hb nd1005
        have m_d1 : b ≠ d1 := hn_ne hb nd1007
        have m_d2 : b ≠ d2 := hn_ne hb nd1009
        have m_q : b ≠ q := hn_ne hb nd1011
        have b1104 := kx b e List.not_mem_nil hb
        have b1105 := ak1 b e (nm2 m_l1 m_d1) b1104
        have b1106 := ak2 b e (nm2 m_l2 m_d2) b1105
        have b1107 := ak3 b e (nm1 m_l3) b1106
        exact b1107
      have s3 : (d3 = dE 0 ∧ c3 = 0 ∧ n3 = 0) ∨ (h d3 = none ∧ c3 = ls_mx n3 ∧ d3 ≠ d0 ∧ d3 ≠ d1 ∧ d3 ≠ d2) := by
        rcases ao3 with z | z
        · exact Or.inl z
        · refine Or.inr ⟨?_, z.2, (hn_ne g1075 z.1).symm, (hn_ne g1076 z.1).symm, (hn_ne ad2 z.1).symm⟩
          have kF1109 : hfr h h1058 [] := by
            intro b e nb hb
            have m_o840 : b ≠ o840 := hn_ne hb nd996
            have m_l0 : b ≠ l0 := hn_ne hb nd997
            have m_l1 : b ≠ l1 := hn_ne hb nd999
            have m_l2 : b ≠ l2 := hn_ne hb nd1001
            have m_l3 : b ≠ l3 := hn_ne hb nd1003
            have m_d0 : b ≠ d0 := hn_ne hb nd1005
            have m_d1 : b ≠ d1 := hn_ne hb nd1007
            have m_d2 : b ≠ d2 := hn_ne hb nd1009
            have m_q : b ≠ q := hn_ne hb nd1011
            have b1110 := kx b e List.not_mem_nil hb
            have b1111 := ak1 b e (nm2 m_l1 m_d1) b1110
            have b1112 := ak2 b e (nm2 m_l2 m_d2) b1111
            exact b1112
          cases c9 : h d3 with
          | none => rfl
          | some e9 =>
            rw [kF1109 _ _ List.not_mem_nil c9] at z
            cases z.1
      have nd3b : d3 ≠ o840 := hne ad3 g1095 (by simp)
      refine ga_pop 96 C.c rfl dX2_same_95 rfl ?_
      refine ga_aload_n 97 C.c 1 rfl rfl dX2_same_96 rfl ?_
      refine ga_aload_n 98 C.c 0 rfl rfl dX2_same_97 rfl ?_
      refine ga_get1 101 4 C.c C.ts (own := RX2) (ref := "QuotedRiver$Rivers") C.ow C.k (hw_one g1085) in_X2 rfl (by decide) q402 (fun _ h9 => h9) rfl dX2_same_98 rfl ?_
      refine hh_put 104 4 C (ref := "QuotedRiver$Rivers") (fs2 := [.ref l0, .ref l1, .ref l2, .ref l3, .int (w0 0), .int 0, .int 0, .int 0]) tyX2_ok nmX2 in_X2 g1095 rfl (by decide) q402 (fun _ h9 => h9) rfl (tyX2_ok 4 (by decide)) rfl rfl (Nat.le_of_ble_eq_true rfl) rfl dX2_same_101 rfl (fun h1113 e1114 => ?_)
      have k1115 := hu_fr e1114
      have g1116 := hu_at e1114
      clear e1114
      have g1117 := k1115 _ _ (nm1 ne847) g1085
      have g1118 := k1115 _ _ (nm1 ne848) g1086
      have g1119 := k1115 _ _ (nm1 ne849) g1087
      have g1120 := k1115 _ _ (nm1 ne850) g1088
      have g1121 := k1115 _ _ (nm1 ne851) g1089
      have g1122 := k1115 _ _ (nm1 ne852) g1090
      have g1123 := k1115 _ _ (nm1 ne853) g1091
      have g1124 := k1115 _ _ (nm1 ne854) g1092
      have g1125 := k1115 _ _ (nm1 ne855) g1093
      have g1126 := k1115 _ _ (nm1 ne856) g1094
      have g1127 := k1115 _ _ (nm1 (Ne.symm ne880)) g1096
      have g1128 := k1115 _ _ (nm1 (Ne.symm ne891)) g1097
      have g1129 := k1115 _ _ (nm1 (Ne.symm ne902)) g1098
      have g1130 := k1115 _ _ (nm1 (Ne.symm ne913)) al3
      have g1131 := k1115 _ _ (nm1 (Ne.symm ne924)) g1099
      have g1132 := k1115 _ _ (nm1 (Ne.symm ne935)) g1100
      have g1133 := k1115 _ _ (nm1 (Ne.symm ne946)) g1101
      have g1134 := k1115 _ _ (nm1 (Ne.symm ne970)) g1102
      have g1135 := k1115 _ _ (nm1 nd3b) ad3
      refine ga_aload_n 105 C.c 1 rfl rfl dX2_same_104 rfl ?_
      refine ga_aload_n 106 C.c 0 rfl rfl dX2_same_105 rfl ?_
      refine ga_get1 109 5 C.c C.ts (own := RX2) (ref := "QuotedRiver$Rivers") C.ow C.k (hw_one g1117) in_X2 rfl (by decide) q406 (fun _ h9 => h9) rfl dX2_same_106 rfl ?_
      refine hh_put 112 5 C (ref := "QuotedRiver$Rivers") (fs2 := [.ref l0, .ref l1, .ref l2, .ref l3, .int (w0 0), .int (w0 1), .int 0, .int 0]) tyX2_ok nmX2 in_X2 g1116 rfl (by decide) q406 (fun _ h9 => h9) rfl (tyX2_ok 5 (by decide)) rfl rfl (Nat.le_of_ble_eq_true rfl) rfl dX2_same_109 rfl (fun h1136 e1137 => ?_)
      have k1138 := hu_fr e1137
      have g1139 := hu_at e1137
      clear e1137
      have g1140 := k1138 _ _ (nm1 ne847) g1117
      have g1141 := k1138 _ _ (nm1 ne848) g1118
      have g1142 := k1138 _ _ (nm1 ne849) g1119
      have g1143 := k1138 _ _ (nm1 ne850) g1120
      have g1144 := k1138 _ _ (nm1 ne851) g1121
      have g1145 := k1138 _ _ (nm1 ne852) g1122
      have g1146 := k1138 _ _ (nm1 ne853) g1123
      have g1147 := k1138 _ _ (nm1 ne854) g1124
      have g1148 := k1138 _ _ (nm1 ne855) g1125
      have g1149 := k1138 _ _ (nm1 ne856) g1126
      have g1150 := k1138 _ _ (nm1 (Ne.symm ne880)) g1127
      have g1151 := k1138 _ _ (nm1 (Ne.symm ne891)) g1128
      have g1152 := k1138 _ _ (nm1 (Ne.symm ne902)) g1129
      have g1153 := k1138 _ _ (nm1 (Ne.symm ne913)) g1130
      have g1154 := k1138 _ _ (nm1 (Ne.symm ne924)) g1131
      have g1155 := k1138 _ _ (nm1 (Ne.symm ne935)) g1132
      have g1156 := k1138 _ _ (nm1 (Ne.symm ne946)) g1133
      have g1157 := k1138 _ _ (nm1 (Ne.symm ne970)) g1134
      have g1158 := k1138 _ _ (nm1 nd3b) g1135
      refine ga_aload_n 113 C.c 1 rfl rfl dX2_same_112 rfl ?_
      refine ga_aload_n 114 C.c 0 rfl rfl dX2_same_113 rfl ?_
      refine ga_get1 117 6 C.c C.ts (own := RX2) (ref := "QuotedRiver$Rivers") C.ow C.k (hw_one g1140) in_X2 rfl (by decide) q410 (fun _ h9 => h9) rfl dX2_same_114 rfl ?_
      refine hh_put 120 6 C (ref := "QuotedRiver$Rivers") (fs2 := [.ref l0, .ref l1, .ref l2, .ref l3, .int (w0 0), .int (w0 1), .int (w0 2), .int 0]) tyX2_ok nmX2 in_X2 g1139 rfl (by decide) q410 (fun _ h9 => h9) rfl (tyX2_ok 6 (by decide)) rfl rfl (Nat.le_of_ble_eq_true rfl) rfl dX2_same_117 rfl (fun h1159 e1160 => ?_)
      have k1161 := hu_fr e1160
      have g1162 := hu_at e1160
      clear e1160
      have g1163 := k1161 _ _ (nm1 ne847) g1140
      have g1164 := k1161 _ _ (nm1 ne848) g1141
      have g1165 := k1161 _ _ (nm1 ne849) g1142
      have g1166 := k1161 _ _ (nm1 ne850) g1143
      have g1167 := k1161 _ _ (nm1 ne851) g1144
      have g1168 := k1161 _ _ (nm1 ne852) g1145
      have g1169 := k1161 _ _ (nm1 ne853) g1146
      have g1170 := k1161 _ _ (nm1 ne854) g1147
      have g1171 := k1161 _ _ (nm1 ne855) g1148
      have g1172 := k1161 _ _ (nm1 ne856) g1149
      have g1173 := k1161 _ _ (nm1 (Ne.symm ne880)) g1150
      have g1174 := k1161 _ _ (nm1 (Ne.symm ne891)) g1151
      have g1175 := k1161 _ _ (nm1 (Ne.symm ne902)) g1152
      have g1176 := k1161 _ _ (nm1 (Ne.symm ne913)) g1153
      have g1177 := k1161 _ _ (nm1 (Ne.symm ne924)) g1154
      have g1178 := k1161 _ _ (nm1 (Ne.symm ne935)) g1155
      have g1179 := k1161 _ _ (nm1 (Ne.symm ne946)) g1156
      have g1180 := k1161 _ _ (nm1 (Ne.symm ne970)) g1157
      have g1181 := k1161 _ _ (nm1 nd3b) g1158
      refine ga_aload_n 121 C.c 1 rfl rfl dX2_same_120 rfl ?_
      refine ga_aload_n 122 C.c 0 rfl rfl dX2_same_121 rfl ?_
      refine ga_get1 125 7 C.c C.ts (own := RX2) (ref := "QuotedRiver$Rivers") C.ow C.k (hw_one g1163) in_X2 rfl (by decide) q414 (fun _ h9 => h9) rfl dX2_same_122 rfl ?_
      refine hh_put 128 7 C (ref := "QuotedRiver$Rivers") (fs2 := [.ref l0, .ref l1, .ref l2, .ref l3, .int (w0 0), .int (w0 1), .int (w0 2), .int (w0 7)]) tyX2_ok nmX2 in_X2 g1162 rfl (by decide) q414 (fun _ h9 => h9) rfl (tyX2_ok 7 (by decide)) rfl rfl (Nat.le_of_ble_eq_true rfl) rfl dX2_same_125 rfl (fun h1182 e1183 => ?_)
      have k1184 := hu_fr e1183
      have g1185 := hu_at e1183
      clear e1183
      have g1186 := k1184 _ _ (nm1 ne847) g1163
      have g1187 := k1184 _ _ (nm1 ne848) g1164
      have g1188 := k1184 _ _ (nm1 ne849) g1165
      have g1189 := k1184 _ _ (nm1 ne850) g1166
      have g1190 := k1184 _ _ (nm1 ne851) g1167
      have g1191 := k1184 _ _ (nm1 ne852) g1168
      have g1192 := k1184 _ _ (nm1 ne853) g1169
      have g1193 := k1184 _ _ (nm1 ne854) g1170
      have g1194 := k1184 _ _ (nm1 ne855) g1171
      have g1195 := k1184 _ _ (nm1 ne856) g1172
      have g1196 := k1184 _ _ (nm1 (Ne.symm ne880)) g1173
      have g1197 := k1184 _ _ (nm1 (Ne.symm ne891)) g1174
      have g1198 := k1184 _ _ (nm1 (Ne.symm ne902)) g1175
      have g1199 := k1184 _ _ (nm1 (Ne.symm ne913)) g1176
      have g1200 := k1184 _ _ (nm1 (Ne.symm ne924)) g1177
      have g1201 := k1184 _ _ (nm1 (Ne.symm ne935)) g1178
      have g1202 := k1184 _ _ (nm1 (Ne.symm ne946)) g1179
      have g1203 := k1184 _ _ (nm1 (Ne.symm ne970)) g1180
      have g1204 := k1184 _ _ (nm1 nd3b) g1181
      refine ga_aload_n 129 C.c 1 rfl rfl dX2_same_128 rfl ?_
      have kF1205 : hfr h h1182 [] := by
        intro b e nb hb
        have m_o840 : b ≠ o840 := hn_ne hb nd996
        have m_l0 : b ≠ l0 := hn_ne hb nd997
        have m_l1 : b ≠ l1 := hn_ne hb nd999
        have m_l2 : b ≠ l2 := hn_ne hb nd1001
        have m_l3 : b ≠ l3 := hn_ne hb nd1003
        have m_d0 : b ≠ d0 := hn_ne hb nd1005
        have m_d1 : b ≠ d1 := hn_ne hb nd1007
        have m_d2 : b ≠ d2 := hn_ne hb nd1009
        have m_q : b ≠ q := hn_ne hb nd1011
        have b1206 := kx b e List.not_mem_nil hb
        have b1207 := ak1 b e (nm2 m_l1 m_d1) b1206
        have b1208 := ak2 b e (nm2 m_l2 m_d2) b1207
        have b1209 := ak3 b e (nm1 m_l3) b1208
        have b1210 := k1115 b e (nm1 m_o840) b1209
        have b1211 := k1138 b e (nm1 m_o840) b1210
        have b1212 := k1161 b e (nm1 m_o840) b1211
        have b1213 := k1184 b e (nm1 m_o840) b1212
        exact b1213
      have HR := hR_mk hRa kF1205 hE (R := R) (c3 := c3) g1185 (by rw [← en0]; exact g1196) (by rw [← en1]; exact g1197) (by rw [← en2]; exact g1198) (by rw [← en3]; exact g1199) g1200 g1201 g1202 g1204
        (by rw [← en0]; exact fun j hj => (hRj j hj).1) (by rw [← en1]; exact fun j hj => af1 j hj) (by rw [← en2]; exact fun j hj => af2 j hj) (by rw [← en3]; exact fun j hj => af3 j hj)
        (by rw [← en0]; exact fun j hj => ⟨k1184 _ _ (nm1 (rne j hj _ _ Go840 (by simp))) (k1161 _ _ (nm1 (rne j hj _ _ Go840 (by simp))) (k1138 _ _ (nm1 (rne j hj _ _ Go840 (by simp))) (k1115 _ _ (nm1 (rne j hj _ _ Go840 (by simp))) (ak3 _ _ (nm1 (rne j hj _ _ Gl3 (by simp))) (ak2 _ _ (nm2 (rne j hj _ _ Gl2 (by simp)) (rne j hj _ _ Gd2 (by simp))) (ak1 _ _ (nm2 (rne j hj _ _ Gl1 (by simp)) (rne j hj _ _ Gd1 (by simp))) ((hRj j hj).2.1))))))), (hRj j hj).2.2⟩) (by rw [← en0]; exact hRd) (by rw [← en3]; exact s3) nd996 nd997 nd999 nd1001 nd1003 nd1005 nd1007 nd1009 p01 p02 p03 p12 p13 p23 r01 r02 r12
      obtain ⟨G2, HR2, HN⟩ := HR
      exact hw_aret C hr (Or.inl ⟨_, rfl⟩) (Or.inr ⟨_, rfl⟩) hlk hq (by omega) (by omega) ⟨o840, G2, rfl, HR2, HN, kF1205⟩ dX2_same_129
    | succ k ih =>
      intro i hx mx lr f R hi Go840 Gl0 Gl1 Gl2 Gl3 Gd0 Gd1 Gd2 Gq hRj hRd kx
      have g1214 := kx _ _ List.not_mem_nil g_o
      have g1215 := kx _ _ List.not_mem_nil g_l0
      have g1216 := kx _ _ List.not_mem_nil g_d0
      have g1217 := kx _ _ List.not_mem_nil g_l1
      have g1218 := kx _ _ List.not_mem_nil g_d1
      have g1219 := kx _ _ List.not_mem_nil g_l2
      have g1220 := kx _ _ List.not_mem_nil g_d2
      have g1221 := kx _ _ List.not_mem_nil g_l3
      have g1222 := kx _ _ List.not_mem_nil g_d3
      have g1223 := kx _ _ List.not_mem_nil hE
      refine ga_aload_n 19 C.c 2 rfl rfl dX2_same_18 rfl ?_
      refine hh_callF 24 C (as := []) (met_J13_hasNext (eL E) D kk dE A _ q (G.1 7 0) (G.1 8 0) (nI i) lr (G.2.2.1 0) (G.2.2.1 0) (nI n0) Gq g1215) Gq (T := TJ13) rfl (C.f _ (List.mem_of_getElem? (i := 6) rfl)) (lw_F q1586 q979 q981 q119 q983) cdL_hasNext rfl (Nat.le_of_ble_eq_true rfl) (Nat.le_of_ble_eq_true rfl) (by omega) (by omega) (Nat.le_of_ble_eq_true rfl) dX2_same_19 rfl (fun v1225 h1224 p1226 => ?_)
      obtain ⟨rfl, e1227⟩ := p1226
      have e1227 := e1227.symm
      subst e1227
      have hi2 : i < n0 := by omega
      rw [if_neg (fun q => by have := (nI_eq (show i < 2 ^ 31 by omega) (show n0 < 2 ^ 31 by omega)).mp q; omega)]
      refine ga_if_eq 54 27 C.c dX2_same_24 (by decide) rfl (fun c1228 => absurd c1228 (by decide)) (fun c1228 => ?_)
      refine ga_aload_n 28 C.c 2 rfl rfl dX2_same_27 rfl ?_
      refine hh_callF 33 C (as := []) (met_J13_next (eL E) D kk dE A _ q (G.1 7 0) (G.1 8 0) (G.2.1 0) (G.1 0 i) (G.2.2.2 0) (nI i) lr (G.2.2.1 0) (nI n0) (nI_lt hi2 (by omega)) (by rw [hc.c0]; exact nI_lt (show i < 10 by omega) (by decide)) (by rw [hc.c0]; exact vp_in_nI (by omega) (by decide)) (by rw [nI_clamp (by omega), hn0.2.2.2 i hi2]; rfl) Gq g1215 g1216) Gq (T := TJ13) rfl (C.f _ (List.mem_of_getElem? (i := 7) rfl)) (lw_F q1588 q988 q990 q119 q992) cdL_next rfl (Nat.le_of_ble_eq_true rfl) (Nat.le_of_ble_eq_true rfl) (by omega) (by omega) (Nat.le_of_ble_eq_true rfl) dX2_same_28 rfl (fun v1230 h1229 p1231 => ?_)
      obtain ⟨rfl, gq2, kq2⟩ := p1231
      have gri := hR1.r i (by rw [← en0]; exact hi2)
      have g1232 := kx _ _ List.not_mem_nil gri
      have g1233 := kq2 _ _ (nm1 ne960) g1214
      have g1234 := kq2 _ _ (nm1 ne961) g1215
      have g1235 := kq2 _ _ (nm1 ne962) g1216
      have g1236 := kq2 _ _ (nm1 ne963) g1217
      have g1237 := kq2 _ _ (nm1 ne964) g1218
      have g1238 := kq2 _ _ (nm1 ne965) g1219
      have g1239 := kq2 _ _ (nm1 ne966) g1220
      have g1240 := kq2 _ _ (nm1 ne967) g1221
      have g1241 := kq2 _ _ (nm1 ne968) g1222
      have g1242 := kq2 _ _ (nm1 ne969) g1223
      have g1243 := kq2 _ _ (nm1 ne970) Go840
      have g1244 := kq2 _ _ (nm1 ne971) Gl0
      have g1245 := kq2 _ _ (nm1 ne972) Gl1
      have g1246 := kq2 _ _ (nm1 ne973) Gl2
      have g1247 := kq2 _ _ (nm1 ne974) Gl3
      have g1248 := kq2 _ _ (nm1 ne975) Gd0
      have g1249 := kq2 _ _ (nm1 ne976) Gd1
      have g1250 := kq2 _ _ (nm1 ne977) Gd2
      have g1251 := kq2 _ _ (nm1 (hn_ne gri nd1011)) g1232
      refine hh_cast 36 C g1251 (T := TX9) rfl q1589 dX2_same_33 rfl ?_
      refine ga_astore_n 37 C.c 3 rfl (Nat.le_of_ble_eq_true rfl) rfl dX2_same_36 rfl ?_
      refine ga_aload_n 38 C.c 1 rfl rfl dX2_same_37 rfl ?_
      refine ga_get1 41 0 C.c C.ts (own := RX2) (ref := "QuotedRiver$Rivers") C.ow C.k (hw_one g1243) in_X2 rfl (by decide) q388 (fun _ h9 => h9) rfl dX2_same_38 rfl ?_
      refine ga_aload_n 42 C.c 3 rfl rfl dX2_same_41 rfl ?_
      refine hh_callV 45 C (as := []) (met_X9_same (eL E) D kk dE A _ (G.1 0 i) (w0 (8 + 3 * i)) (w0 (9 + 3 * i)) (w0 (10 + 3 * i)) g1251) g1251 (T := TX9) rfl (lw_V q1590 q1591 q1592 q113 q1593) cd_X9_same rfl (Nat.le_of_ble_eq_true rfl) (Nat.le_of_ble_eq_true rfl) (by omega) (by omega) (Nat.le_of_ble_eq_true rfl) dX2_same_42 rfl (fun v1253 h1252 p1254 => ?_)
      obtain ⟨r, nr, rfl, gr, kr⟩ := p1254
      have ne1255 : a ≠ r := hn_ne g1233 nr
      have ne1256 : (G.1 7 0) ≠ r := hn_ne g1234 nr
      have ne1257 : (G.1 8 0) ≠ r := hn_ne g1235 nr
      have ne1258 : (G.1 7 1) ≠ r := hn_ne g1236 nr
      have ne1259 : (G.1 8 1) ≠ r := hn_ne g1237 nr
      have ne1260 : (G.1 7 2) ≠ r := hn_ne g1238 nr
      have ne1261 : (G.1 8 2) ≠ r := hn_ne g1239 nr
      have ne1262 : (G.1 7 3) ≠ r := hn_ne g1240 nr
      have ne1263 : (G.1 8 3) ≠ r := hn_ne g1241 nr
      have ne1264 : (dE 0) ≠ r := hn_ne g1242 nr
      have ne1265 : o840 ≠ r := hn_ne g1243 nr
      have ne1266 : l0 ≠ r := hn_ne g1244 nr
      have ne1267 : l1 ≠ r := hn_ne g1245 nr
      have ne1268 : l2 ≠ r := hn_ne g1246 nr
      have ne1269 : l3 ≠ r := hn_ne g1247 nr
      have ne1270 : d0 ≠ r := hn_ne g1248 nr
      have ne1271 : d1 ≠ r := hn_ne g1249 nr
      have ne1272 : d2 ≠ r := hn_ne g1250 nr
      have ne1273 : q ≠ r := hn_ne gq2 nr
      have ne1274 : (G.1 0 i) ≠ r := hn_ne g1251 nr
      have g1275 := kr _ _ List.not_mem_nil g1233
      have g1276 := kr _ _ List.not_mem_nil g1234
      have g1277 := kr _ _ List.not_mem_nil g1235
      have g1278 := kr _ _ List.not_mem_nil g1236
      have g1279 := kr _ _ List.not_mem_nil g1237
      have g1280 := kr _ _ List.not_mem_nil g1238
      have g1281 := kr _ _ List.not_mem_nil g1239
      have g1282 := kr _ _ List.not_mem_nil g1240
      have g1283 := kr _ _ List.not_mem_nil g1241
      have g1284 := kr _ _ List.not_mem_nil g1242
      have g1285 := kr _ _ List.not_mem_nil g1243
      have g1286 := kr _ _ List.not_mem_nil g1244
      have g1287 := kr _ _ List.not_mem_nil g1245
      have g1288 := kr _ _ List.not_mem_nil g1246
      have g1289 := kr _ _ List.not_mem_nil g1247
      have g1290 := kr _ _ List.not_mem_nil g1248
      have g1291 := kr _ _ List.not_mem_nil g1249
      have g1292 := kr _ _ List.not_mem_nil g1250
      have g1293 := kr _ _ List.not_mem_nil gq2
      have g1294 := kr _ _ List.not_mem_nil g1251
      have nd1295 : h r = none := by
        cases c9 : h r with
        | none => rfl
        | some e9 =>
          have b1296 := kx r e9 List.not_mem_nil c9
          have b1297 := kq2 r e9 (nm1 (Ne.symm ne1273)) b1296
          rw [nr] at b1297
          cases b1297
      refine hh_callF 50 C (as := [.ref r]) (met_J2_add_r (eL E) D kk dE A _ l0 d0 10 i r f mx (by omega) (by decide) ⟨9, _, gr, by omega, by omega⟩ (nm1 (Ne.symm ne1266)) g1286 g1290) g1286 (T := TJ2) rfl (C.f _ (List.mem_of_getElem? (i := 0) rfl)) (lw_F q1597 q829 q831 q98 q833) cdL_add rfl (Nat.le_of_ble_eq_true rfl) (Nat.le_of_ble_eq_true rfl) (by omega) (by omega) (Nat.le_of_ble_eq_true rfl) dX2_same_45 rfl (fun v1299 h1298 p1300 => ?_)
      obtain ⟨rfl, gl0n, gd0n, kan⟩ := p1300
      have g1301 := kan _ _ (nm2 ne870 ne914) g1275
      have g1302 := kan _ _ (nm2 ne871 ne915) g1276
      have g1303 := kan _ _ (nm2 ne872 ne916) g1277
      have g1304 := kan _ _ (nm2 ne873 ne917) g1278
      have g1305 := kan _ _ (nm2 ne874 ne918) g1279
      have g1306 := kan _ _ (nm2 ne875 ne919) g1280
      have g1307 := kan _ _ (nm2 ne876 ne920) g1281
      have g1308 := kan _ _ (nm2 ne877 ne921) g1282
      have g1309 := kan _ _ (nm2 ne878 ne922) g1283
      have g1310 := kan _ _ (nm2 ne879 ne923) g1284
      have g1311 := kan _ _ (nm2 ne880 ne924) g1285
      have g1312 := kan _ _ (nm2 (Ne.symm p01) (hne g1287 g1290 (by simp))) g1287
      have g1313 := kan _ _ (nm2 (Ne.symm p02) (hne g1288 g1290 (by simp))) g1288
      have g1314 := kan _ _ (nm2 (Ne.symm p03) (hne g1289 g1290 (by simp))) g1289
      have g1315 := kan _ _ (nm2 (hne g1291 g1286 (by simp)) (Ne.symm r01)) g1291
      have g1316 := kan _ _ (nm2 (hne g1292 g1286 (by simp)) (Ne.symm r02)) g1292
      have g1317 := kan _ _ (nm2 (Ne.symm ne971) (Ne.symm ne975)) g1293
      have g1318 := kan _ _ (nm2 (hn_ne gri nd997) (hn_ne gri nd1005)) g1294
      have g1319 := kan _ _ (nm2 (Ne.symm ne1266) (Ne.symm ne1270)) gr
      refine ga_pop 51 C.c rfl dX2_same_50 rfl ?_
      refine ga_goto 18 C.c dX2_same_51 (by decide) ?_
      rw [nI_1] at g1317
      have kF1320 : hfr h h1298 [] := by
        intro b e nb hb
        have m_o840 : b ≠ o840 := hn_ne hb nd996
        have m_l0 : b ≠ l0 := hn_ne hb nd997
        have m_l1 : b ≠ l1 := hn_ne hb nd999
        have m_l2 : b ≠ l2 := hn_ne hb nd1001
        have m_l3 : b ≠ l3 := hn_ne hb nd1003
        have m_d0 : b ≠ d0 := hn_ne hb nd1005
        have m_d1 : b ≠ d1 := hn_ne hb nd1007
        have m_d2 : b ≠ d2 := hn_ne hb nd1009
        have m_q : b ≠ q := hn_ne hb nd1011
        have b1321 := kx b e List.not_mem_nil hb
        have b1322 := kq2 b e (nm1 m_q) b1321
        have m_r : b ≠ r := hn_ne b1322 nr
        have b1323 := kr b e List.not_mem_nil b1322
        have b1324 := kan b e (nm2 m_l0 m_d0) b1323
        exact b1324
      refine ga_widen (k2 := 0 + 1 + 7 + 1 + (i + 1)) (n2 := 0 + 8 + 32 + 4 + 3 * (i + 1)) (by omega) (by omega) ?_
      refine ga_W.sub (ih (i + 1) _ (mx + 1) (nI i) (va_up f i (some r)) (va_up R i r) (by omega) g1311 gl0n g1312 g1313 g1314 gd0n g1315 g1316 g1317 ?_ ?_ kF1320) (And.intro rfl (And.intro rfl (And.intro rfl trivial)))
      · intro j hj
        by_cases c9 : j = i
        · subst c9
          rw [va_up_self, va_up_self]
          exact ⟨rfl, g1319, nd1295⟩
        · rw [va_up_ne _ _ c9, va_up_ne _ _ c9]
          obtain ⟨u1, u2, u3⟩ := hRj j (by omega)
          refine ⟨u1, ?_, u3⟩
          exact kan _ _ (nm2 (hne u2 Gl0 (by simp)) (hne u2 Gd0 (by simp))) (kr _ _ List.not_mem_nil (kq2 _ _ (nm1 (hne u2 Gq (by simp))) (u2)))
      · intro j j2 hj hj2 hn
        have rn : ∀ j, j < i → R j ≠ r := fun j hj => by
          exact hn_ne (kq2 _ _ (nm1 (hne (hRj j hj).2.1 Gq (by simp))) ((hRj j hj).2.1)) nr
        by_cases c1 : j = i
        · subst c1
          rw [va_up_self, va_up_ne _ _ (Ne.symm hn)]
          exact (rn j2 (by omega)).symm
        · by_cases c2 : j2 = i
          · subst c2
            rw [va_up_self, va_up_ne _ _ hn]
            exact rn j (by omega)
          · rw [va_up_ne _ _ c1, va_up_ne _ _ c2]
            exact hRd j j2 (by omega) (by omega) hn
  refine ga_widen (k2 := 0 + 1 + 7 + 1 + 0) (n2 := 0 + 8 + 32 + 4 + 3 * 0) (by omega) (by omega) ?_
  exact ga_W.sub (loop n0 0 _ 0 (-1) (fun _ => none) (fun _ => 0) (by omega) g988 g989 g990 g991 g992 g993 g994 g995 gq (fun j hj => absurd hj (by omega)) (fun j j2 hj => absurd hj (by omega)) kF1014) (And.intro rfl (And.intro rfl (And.intro rfl trivial)))
