set_option maxRecDepth 100000
theorem cd_X0_init : yX0_init.cls ≠ "java/lang/invoke/MethodHandle" ∧ yX0_init.cls ≠ "java/lang/invoke/VarHandle" ∧ (parseMethodDescriptor yX0_init.desc).map (fun d => d.parameters.length) = some 0 := by decide +kernel
set_option maxHeartbeats 4000000 in
theorem met_X0_init (l : Launch) (D : va_G) (kk : Nat → Nat) (dE : Nat → Nat) (A : Nat → Prop) (h : hG) (a : Nat) (p : PS) (hp0 : ∀ i, i < 98 → p.1 0 i = 0) (hp3 : ∀ s, s < 4 → pm p s = -1) (hE0 : ∃ fE : Nat → Option Nat, h (dE 0) = some (.inl (kk 5, 0, .inr (.inr (.inr (.inr fE)))))) (g_a : h a = some (.inr (0, [.null, .null, .null, .null, .int 0, .int 0, .int 0, .null, .null, .null, .int 0, .null, .int 0, .null, .null]))) : Met l yX0_init (ws_ yX0_init cX0_init 1 none) ({ frames := 6, cells := 40, slots := 6000, locals := 300 } : Room) (hw_Pc D kk dE A h [.ref a]) (hw_Qc D A (fun v h2 => v = none ∧ ∃ (g : Nat → Nat) (z : MS) (G : XG) (S : XL), g 0 = a ∧ mi z 0 = 0 ∧ mi z 1 = 0 ∧ mi z 2 = -1 ∧ (∀ i, ma z 0 i = 0) ∧ XF kk dE h2 g z G S p (fun _ => none, fun _ => G, fun _ _ => 0))) (40) (6000) A := by
  refine hw_of (RX := RX0) (lo := [some (.ref a)]) (by decide) rfl (Nat.le_of_ble_eq_true rfl) rfl (fun E C hin hr hlk hq => ?_)
  obtain ⟨fE, hE⟩ := hE0
  have nad : a ≠ dE 0 := hne g_a hE (by simp)
  refine ga_aload_n 1 C.c 0 rfl rfl dX0_init_0 rfl ?_
  refine hh_obj 4 C q334 q157 q158 (Nat.le_of_ble_eq_true rfl) (Nat.le_of_ble_eq_true rfl) (Nat.le_of_ble_eq_true rfl) dX0_init_1 rfl ?_
  refine ga_aload_n 5 C.c 0 rfl rfl dX0_init_4 rfl ?_
  refine ga_iconst 6 C.c (v := 4) (by decide) dX0_init_5 rfl ?_
  refine hh_newq 9 4 C (N' := 4) q335 C.o.2.1 rfl (by decide) (by decide) (by decide) (Nat.le_of_ble_eq_true rfl) (Nat.le_of_ble_eq_true rfl) dX0_init_6 rfl (fun o40001 h40002 n40004 a40005 e40003 => ?_)
  have k40006 := hu_fr0 e40003 n40004
  have g40007 := hu_at e40003
  clear e40003
  have ne40008 : a ≠ o40001 := hn_ne g_a n40004
  have ne40009 : (dE 0) ≠ o40001 := hn_ne hE n40004
  have g40010 := k40006 _ _ List.not_mem_nil g_a
  have g40011 := k40006 _ _ List.not_mem_nil hE
  refine ga_dup 10 C.c rfl dX0_init_9 rfl ?_
  refine ga_iconst 11 C.c (v := 0) (by decide) dX0_init_10 rfl ?_
  refine hh_new 14 C (ci := 2) (fs := [.null]) tyX1 tyX1_ok in_X1 q335 q289 q94 rfl (fun j hj => by rcases (show j = 0 by omega) with rfl <;> rfl) (Nat.le_of_ble_eq_true rfl) (Nat.le_of_ble_eq_true rfl) dX0_init_11 rfl (fun o40012 h40013 n40015 a40016 e40014 => ?_)
  have k40017 := hu_fr0 e40014 n40015
  have g40018 := hu_at e40014
  clear e40014
  have ne40019 : a ≠ o40012 := hn_ne g40010 n40015
  have ne40020 : (dE 0) ≠ o40012 := hn_ne g40011 n40015
  have ne40021 : o40001 ≠ o40012 := hn_ne g40007 n40015
  have g40022 := k40017 _ _ List.not_mem_nil g40010
  have g40023 := k40017 _ _ List.not_mem_nil g40011
  have g40024 := k40017 _ _ List.not_mem_nil g40007
  refine ga_dup 15 C.c rfl dX0_init_14 rfl ?_
  refine hh_callIN 18 C (as := []) (met_X1_init (eL E) D kk dE A _ o40012) q337 q338 q94 q339 rfl cd_X1_init rfl (Nat.le_of_ble_eq_true rfl) (Nat.le_of_ble_eq_true rfl) (Nat.le_of_ble_eq_true rfl) (Nat.le_of_ble_eq_true rfl) (Nat.le_of_ble_eq_true rfl) dX0_init_15 rfl (fun v40026 h40025 p40027 => ?_)
  obtain ⟨rfl, e40028⟩ := p40027
  have e40028 := e40028.symm
  subst e40028
  refine hh_astq 19 4 C (ci := 2) g40024 rfl g40018 rfl (vp_in_iff.mpr (by decide)) dX0_init_18 rfl (fun h40029 e40030 => ?_)
  have k40031 := hu_fr e40030
  have g40032 := hu_at e40030
  clear e40030
  have g40033 := k40031 _ _ (nm1 ne40008) g40022
  have g40034 := k40031 _ _ (nm1 ne40009) g40023
  have g40035 := k40031 _ _ (nm1 (Ne.symm ne40021)) g40018
  refine ga_dup 20 C.c rfl dX0_init_19 rfl ?_
  refine ga_iconst 21 C.c (v := 1) (by decide) dX0_init_20 rfl ?_
  refine hh_new 24 C (ci := 2) (fs := [.null]) tyX1 tyX1_ok in_X1 q335 q289 q94 rfl (fun j hj => by rcases (show j = 0 by omega) with rfl <;> rfl) (Nat.le_of_ble_eq_true rfl) (Nat.le_of_ble_eq_true rfl) dX0_init_21 rfl (fun o40036 h40037 n40039 a40040 e40038 => ?_)
  have k40041 := hu_fr0 e40038 n40039
  have g40042 := hu_at e40038
  clear e40038
  have ne40043 : a ≠ o40036 := hn_ne g40033 n40039
  have ne40044 : (dE 0) ≠ o40036 := hn_ne g40034 n40039
  have ne40045 : o40001 ≠ o40036 := hn_ne g40032 n40039
  have ne40046 : o40012 ≠ o40036 := hn_ne g40035 n40039
  have g40047 := k40041 _ _ List.not_mem_nil g40033
  have g40048 := k40041 _ _ List.not_mem_nil g40034
  have g40049 := k40041 _ _ List.not_mem_nil g40032
  have g40050 := k40041 _ _ List.not_mem_nil g40035
  refine ga_dup 25 C.c rfl dX0_init_24 rfl ?_
  refine hh_callIN 28 C (as := []) (met_X1_init (eL E) D kk dE A _ o40036) q337 q338 q94 q339 rfl cd_X1_init rfl (Nat.le_of_ble_eq_true rfl) (Nat.le_of_ble_eq_true rfl) (Nat.le_of_ble_eq_true rfl) (Nat.le_of_ble_eq_true rfl) (Nat.le_of_ble_eq_true rfl) dX0_init_25 rfl (fun v40052 h40051 p40053 => ?_)
  obtain ⟨rfl, e40054⟩ := p40053
  have e40054 := e40054.symm
  subst e40054
  refine hh_astq 29 4 C (ci := 2) g40049 rfl g40042 rfl (vp_in_iff.mpr (by decide)) dX0_init_28 rfl (fun h40055 e40056 => ?_)
  have k40057 := hu_fr e40056
  have g40058 := hu_at e40056
  clear e40056
  have g40059 := k40057 _ _ (nm1 ne40008) g40047
  have g40060 := k40057 _ _ (nm1 ne40009) g40048
  have g40061 := k40057 _ _ (nm1 (Ne.symm ne40021)) g40050
  have g40062 := k40057 _ _ (nm1 (Ne.symm ne40045)) g40042
  refine ga_dup 30 C.c rfl dX0_init_29 rfl ?_
  refine ga_iconst 31 C.c (v := 2) (by decide) dX0_init_30 rfl ?_
  refine hh_new 34 C (ci := 2) (fs := [.null]) tyX1 tyX1_ok in_X1 q335 q289 q94 rfl (fun j hj => by rcases (show j = 0 by omega) with rfl <;> rfl) (Nat.le_of_ble_eq_true rfl) (Nat.le_of_ble_eq_true rfl) dX0_init_31 rfl (fun o40063 h40064 n40066 a40067 e40065 => ?_)
  have k40068 := hu_fr0 e40065 n40066
  have g40069 := hu_at e40065
  clear e40065
  have ne40070 : a ≠ o40063 := hn_ne g40059 n40066
  have ne40071 : (dE 0) ≠ o40063 := hn_ne g40060 n40066
  have ne40072 : o40001 ≠ o40063 := hn_ne g40058 n40066
  have ne40073 : o40012 ≠ o40063 := hn_ne g40061 n40066
  have ne40074 : o40036 ≠ o40063 := hn_ne g40062 n40066
  have g40075 := k40068 _ _ List.not_mem_nil g40059
  have g40076 := k40068 _ _ List.not_mem_nil g40060
  have g40077 := k40068 _ _ List.not_mem_nil g40058
  have g40078 := k40068 _ _ List.not_mem_nil g40061
  have g40079 := k40068 _ _ List.not_mem_nil g40062
  refine ga_dup 35 C.c rfl dX0_init_34 rfl ?_
  refine hh_callIN 38 C (as := []) (met_X1_init (eL E) D kk dE A _ o40063) q337 q338 q94 q339 rfl cd_X1_init rfl (Nat.le_of_ble_eq_true rfl) (Nat.le_of_ble_eq_true rfl) (Nat.le_of_ble_eq_true rfl) (Nat.le_of_ble_eq_true rfl) (Nat.le_of_ble_eq_true rfl) dX0_init_35 rfl (fun v40081 h40080 p40082 => ?_)
  obtain ⟨rfl, e40083⟩ := p40082
  have e40083 := e40083.symm
  subst e40083
  refine hh_astq 39 4 C (ci := 2) g40077 rfl g40069 rfl (vp_in_iff.mpr (by decide)) dX0_init_38 rfl (fun h40084 e40085 => ?_)
  have k40086 := hu_fr e40085
  have g40087 := hu_at e40085
  clear e40085
  have g40088 := k40086 _ _ (nm1 ne40008) g40075
  have g40089 := k40086 _ _ (nm1 ne40009) g40076
  have g40090 := k40086 _ _ (nm1 (Ne.symm ne40021)) g40078
  have g40091 := k40086 _ _ (nm1 (Ne.symm ne40045)) g40079
  have g40092 := k40086 _ _ (nm1 (Ne.symm ne40072)) g40069
  refine ga_dup 40 C.c rfl dX0_init_39 rfl ?_
  refine ga_iconst 41 C.c (v := 3) (by decide) dX0_init_40 rfl ?_
  refine hh_new 44 C (ci := 2) (fs := [.null]) tyX1 tyX1_ok in_X1 q335 q289 q94 rfl (fun j hj => by rcases (show j = 0 by omega) with rfl <;> rfl) (Nat.le_of_ble_eq_true rfl) (Nat.le_of_ble_eq_true rfl) dX0_init_41 rfl (fun o40093 h40094 n40096 a40097 e40095 => ?_)
  have k40098 := hu_fr0 e40095 n40096
  have g40099 := hu_at e40095
  clear e40095
  have ne40100 : a ≠ o40093 := hn_ne g40088 n40096
  have ne40101 : (dE 0) ≠ o40093 := hn_ne g40089 n40096
  have ne40102 : o40001 ≠ o40093 := hn_ne g40087 n40096
  have ne40103 : o40012 ≠ o40093 := hn_ne g40090 n40096
  have ne40104 : o40036 ≠ o40093 := hn_ne g40091 n40096
  have ne40105 : o40063 ≠ o40093 := hn_ne g40092 n40096
  have g40106 := k40098 _ _ List.not_mem_nil g40088
  have g40107 := k40098 _ _ List.not_mem_nil g40089
  have g40108 := k40098 _ _ List.not_mem_nil g40087
  have g40109 := k40098 _ _ List.not_mem_nil g40090
  have g40110 := k40098 _ _ List.not_mem_nil g40091
  have g40111 := k40098 _ _ List.not_mem_nil g40092
  refine ga_dup 45 C.c rfl dX0_init_44 rfl ?_
  refine hh_callIN 48 C (as := []) (met_X1_init (eL E) D kk dE A _ o40093) q337 q338 q94 q339 rfl cd_X1_init rfl (Nat.le_of_ble_eq_true rfl) (Nat.le_of_ble_eq_true rfl) (Nat.le_of_ble_eq_true rfl) (Nat.le_of_ble_eq_true rfl) (Nat.le_of_ble_eq_true rfl) dX0_init_45 rfl (fun v40113 h40112 p40114 => ?_)
  obtain ⟨rfl, e40115⟩ := p40114
  have e40115 := e40115.symm
  subst e40115
  refine hh_astq 49 4 C (ci := 2) g40108 rfl g40099 rfl (vp_in_iff.mpr (by decide)) dX0_init_48 rfl (fun h40116 e40117 => ?_)
  have k40118 := hu_fr e40117
  have g40119 := hu_at e40117
  clear e40117
  have g40120 := k40118 _ _ (nm1 ne40008) g40106
  have g40121 := k40118 _ _ (nm1 ne40009) g40107
  have g40122 := k40118 _ _ (nm1 (Ne.symm ne40021)) g40109
  have g40123 := k40118 _ _ (nm1 (Ne.symm ne40045)) g40110
  have g40124 := k40118 _ _ (nm1 (Ne.symm ne40072)) g40111
  have g40125 := k40118 _ _ (nm1 (Ne.symm ne40102)) g40099
  refine hh_same g40119 (f2 := fun i => some (f4 o40012 o40036 o40063 o40093 i)) xs_four (fun h40126 e40127 => ?_)
  have k40128 := hu_fr e40127
  have g40129 := hu_at e40127
  clear e40127
  have g40130 := k40128 _ _ (nm1 ne40008) g40120
  have g40131 := k40128 _ _ (nm1 ne40009) g40121
  have g40132 := k40128 _ _ (nm1 (Ne.symm ne40021)) g40122
  have g40133 := k40128 _ _ (nm1 (Ne.symm ne40045)) g40123
  have g40134 := k40128 _ _ (nm1 (Ne.symm ne40072)) g40124
  have g40135 := k40128 _ _ (nm1 (Ne.symm ne40102)) g40125
  refine hh_putF 52 0 C hin (ref := "QuotedRiver") (fs2 := [.ref o40001, .null, .null, .null, .int 0, .int 0, .int 0, .null, .null, .null, .int 0, .null, .int 0, .null, .null]) tyX0_ok nmX0 in_X0 g40130 rfl (by decide) q552 (fun _ h9 => h9) rfl rfl (tyX0_ok 0 (by decide)) rfl rfl (Nat.le_of_ble_eq_true rfl) rfl dX0_init_49 rfl (fun h40136 e40137 => ?_)
  have k40138 := hu_fr e40137
  have g40139 := hu_at e40137
  clear e40137
  have g40140 := k40138 _ _ (nm1 (Ne.symm nad)) g40131
  have g40141 := k40138 _ _ (nm1 (Ne.symm ne40008)) g40129
  have g40142 := k40138 _ _ (nm1 (Ne.symm ne40019)) g40132
  have g40143 := k40138 _ _ (nm1 (Ne.symm ne40043)) g40133
  have g40144 := k40138 _ _ (nm1 (Ne.symm ne40070)) g40134
  have g40145 := k40138 _ _ (nm1 (Ne.symm ne40100)) g40135
  refine ga_aload_n 53 C.c 0 rfl rfl dX0_init_52 rfl ?_
  refine hh_new 56 C (ci := 3) (fs := [.null, .null, .null, .null, .int 0, .int 0, .int 0, .int 0]) tyX2 tyX2_ok in_X2 q346 q347 q95 rfl (fun j hj => by rcases (show j = 0 ∨ j = 1 ∨ j = 2 ∨ j = 3 ∨ j = 4 ∨ j = 5 ∨ j = 6 ∨ j = 7 by omega) with rfl | rfl | rfl | rfl | rfl | rfl | rfl | rfl <;> rfl) (Nat.le_of_ble_eq_true rfl) (Nat.le_of_ble_eq_true rfl) dX0_init_53 rfl (fun o40146 h40147 n40149 a40150 e40148 => ?_)
  have k40151 := hu_fr0 e40148 n40149
  have g40152 := hu_at e40148
  clear e40148
  have ne40153 : a ≠ o40146 := hn_ne g40139 n40149
  have ne40154 : (dE 0) ≠ o40146 := hn_ne g40140 n40149
  have ne40155 : o40001 ≠ o40146 := hn_ne g40141 n40149
  have ne40156 : o40012 ≠ o40146 := hn_ne g40142 n40149
  have ne40157 : o40036 ≠ o40146 := hn_ne g40143 n40149
  have ne40158 : o40063 ≠ o40146 := hn_ne g40144 n40149
  have ne40159 : o40093 ≠ o40146 := hn_ne g40145 n40149
  have g40160 := k40151 _ _ List.not_mem_nil g40139
  have g40161 := k40151 _ _ List.not_mem_nil g40140
  have g40162 := k40151 _ _ List.not_mem_nil g40141
  have g40163 := k40151 _ _ List.not_mem_nil g40142
  have g40164 := k40151 _ _ List.not_mem_nil g40143
  have g40165 := k40151 _ _ List.not_mem_nil g40144
  have g40166 := k40151 _ _ List.not_mem_nil g40145
  refine ga_dup 57 C.c rfl dX0_init_56 rfl ?_
  refine hh_callIN 60 C (as := []) (met_X2_init (eL E) D kk dE A _ o40146 g40152) q348 q349 q95 q350 rfl cd_X2_init rfl (Nat.le_of_ble_eq_true rfl) (Nat.le_of_ble_eq_true rfl) (Nat.le_of_ble_eq_true rfl) (Nat.le_of_ble_eq_true rfl) (Nat.le_of_ble_eq_true rfl) dX0_init_57 rfl (fun v40168 h40167 p40169 => ?_)
  obtain ⟨rfl, l0, l1, l2, l3, d0, d1, d2, yl0, yl1, yl2, yl3, yd0, yd1, yd2, p01, p02, p03, p12, p13, p23, r01, r02, r12, gb, gl0, gl1, gl2, gl3, gd0, gd1, gd2, kb⟩ := p40169
  have ne40170 : a ≠ l0 := hn_ne g40160 yl0
  have ne40171 : (dE 0) ≠ l0 := hn_ne g40161 yl0
  have ne40172 : o40001 ≠ l0 := hn_ne g40162 yl0
  have ne40173 : o40012 ≠ l0 := hn_ne g40163 yl0
  have ne40174 : o40036 ≠ l0 := hn_ne g40164 yl0
  have ne40175 : o40063 ≠ l0 := hn_ne g40165 yl0
  have ne40176 : o40093 ≠ l0 := hn_ne g40166 yl0
  have ne40177 : o40146 ≠ l0 := hn_ne g40152 yl0
  have ne40178 : a ≠ l1 := hn_ne g40160 yl1
  have ne40179 : (dE 0) ≠ l1 := hn_ne g40161 yl1
  have ne40180 : o40001 ≠ l1 := hn_ne g40162 yl1
  have ne40181 : o40012 ≠ l1 := hn_ne g40163 yl1
  have ne40182 : o40036 ≠ l1 := hn_ne g40164 yl1
  have ne40183 : o40063 ≠ l1 := hn_ne g40165 yl1
  have ne40184 : o40093 ≠ l1 := hn_ne g40166 yl1
  have ne40185 : o40146 ≠ l1 := hn_ne g40152 yl1
  have ne40186 : a ≠ l2 := hn_ne g40160 yl2
  have ne40187 : (dE 0) ≠ l2 := hn_ne g40161 yl2
  have ne40188 : o40001 ≠ l2 := hn_ne g40162 yl2
  have ne40189 : o40012 ≠ l2 := hn_ne g40163 yl2
  have ne40190 : o40036 ≠ l2 := hn_ne g40164 yl2
  have ne40191 : o40063 ≠ l2 := hn_ne g40165 yl2
  have ne40192 : o40093 ≠ l2 := hn_ne g40166 yl2
  have ne40193 : o40146 ≠ l2 := hn_ne g40152 yl2
  have ne40194 : a ≠ l3 := hn_ne g40160 yl3
  have ne40195 : (dE 0) ≠ l3 := hn_ne g40161 yl3
  have ne40196 : o40001 ≠ l3 := hn_ne g40162 yl3
  have ne40197 : o40012 ≠ l3 := hn_ne g40163 yl3
  have ne40198 : o40036 ≠ l3 := hn_ne g40164 yl3
  have ne40199 : o40063 ≠ l3 := hn_ne g40165 yl3
  have ne40200 : o40093 ≠ l3 := hn_ne g40166 yl3
  have ne40201 : o40146 ≠ l3 := hn_ne g40152 yl3
  have ne40202 : a ≠ d0 := hn_ne g40160 yd0
  have ne40203 : (dE 0) ≠ d0 := hn_ne g40161 yd0
  have ne40204 : o40001 ≠ d0 := hn_ne g40162 yd0
  have ne40205 : o40012 ≠ d0 := hn_ne g40163 yd0
  have ne40206 : o40036 ≠ d0 := hn_ne g40164 yd0
  have ne40207 : o40063 ≠ d0 := hn_ne g40165 yd0
  have ne40208 : o40093 ≠ d0 := hn_ne g40166 yd0
  have ne40209 : o40146 ≠ d0 := hn_ne g40152 yd0
  have ne40210 : a ≠ d1 := hn_ne g40160 yd1
  have ne40211 : (dE 0) ≠ d1 := hn_ne g40161 yd1
  have ne40212 : o40001 ≠ d1 := hn_ne g40162 yd1
  have ne40213 : o40012 ≠ d1 := hn_ne g40163 yd1
  have ne40214 : o40036 ≠ d1 := hn_ne g40164 yd1
  have ne40215 : o40063 ≠ d1 := hn_ne g40165 yd1
  have ne40216 : o40093 ≠ d1 := hn_ne g40166 yd1
  have ne40217 : o40146 ≠ d1 := hn_ne g40152 yd1
  have ne40218 : a ≠ d2 := hn_ne g40160 yd2
  have ne40219 : (dE 0) ≠ d2 := hn_ne g40161 yd2
  have ne40220 : o40001 ≠ d2 := hn_ne g40162 yd2
  have ne40221 : o40012 ≠ d2 := hn_ne g40163 yd2
  have ne40222 : o40036 ≠ d2 := hn_ne g40164 yd2
  have ne40223 : o40063 ≠ d2 := hn_ne g40165 yd2
  have ne40224 : o40093 ≠ d2 := hn_ne g40166 yd2
  have ne40225 : o40146 ≠ d2 := hn_ne g40152 yd2
  have g40226 := kb _ _ (nm1 ne40153) g40160
  have g40227 := kb _ _ (nm1 ne40154) g40161
  have g40228 := kb _ _ (nm1 ne40155) g40162
  have g40229 := kb _ _ (nm1 ne40156) g40163
  have g40230 := kb _ _ (nm1 ne40157) g40164
  have g40231 := kb _ _ (nm1 ne40158) g40165
  have g40232 := kb _ _ (nm1 ne40159) g40166
  refine hh_put 63 1 C (ref := "QuotedRiver") (fs2 := [.ref o40001, .ref o40146, .null, .null, .int 0, .int 0, .int 0, .null, .null, .null, .int 0, .null, .int 0, .null, .null]) tyX0_ok nmX0 in_X0 g40226 rfl (by decide) q554 (fun _ h9 => h9) rfl (tyX0_ok 1 (by decide)) rfl rfl (Nat.le_of_ble_eq_true rfl) rfl dX0_init_60 rfl (fun h40233 e40234 => ?_)
  have k40235 := hu_fr e40234
  have g40236 := hu_at e40234
  clear e40234
  have g40237 := k40235 _ _ (nm1 (Ne.symm nad)) g40227
  have g40238 := k40235 _ _ (nm1 (Ne.symm ne40008)) g40228
  have g40239 := k40235 _ _ (nm1 (Ne.symm ne40019)) g40229
  have g40240 := k40235 _ _ (nm1 (Ne.symm ne40043)) g40230
  have g40241 := k40235 _ _ (nm1 (Ne.symm ne40070)) g40231
  have g40242 := k40235 _ _ (nm1 (Ne.symm ne40100)) g40232
  have g40243 := k40235 _ _ (nm1 (Ne.symm ne40153)) gb
  have g40244 := k40235 _ _ (nm1 (Ne.symm ne40170)) gl0
  have g40245 := k40235 _ _ (nm1 (Ne.symm ne40178)) gl1
  have g40246 := k40235 _ _ (nm1 (Ne.symm ne40186)) gl2
  have g40247 := k40235 _ _ (nm1 (Ne.symm ne40194)) gl3
  have g40248 := k40235 _ _ (nm1 (Ne.symm ne40202)) gd0
  have g40249 := k40235 _ _ (nm1 (Ne.symm ne40210)) gd1
  have g40250 := k40235 _ _ (nm1 (Ne.symm ne40218)) gd2
  refine ga_aload_n 64 C.c 0 rfl rfl dX0_init_63 rfl ?_
  refine ga_iconst 65 C.c (v := 3) (by decide) dX0_init_64 rfl ?_
  refine hh_newq 68 6 C (N' := 3) q346 C.o.2.2 rfl (by decide) (by decide) (by decide) (Nat.le_of_ble_eq_true rfl) (Nat.le_of_ble_eq_true rfl) dX0_init_65 rfl (fun o40251 h40252 n40254 a40255 e40253 => ?_)
  have k40256 := hu_fr0 e40253 n40254
  have g40257 := hu_at e40253
  clear e40253
  have ne40258 : a ≠ o40251 := hn_ne g40236 n40254
  have ne40259 : (dE 0) ≠ o40251 := hn_ne g40237 n40254
  have ne40260 : o40001 ≠ o40251 := hn_ne g40238 n40254
  have ne40261 : o40012 ≠ o40251 := hn_ne g40239 n40254
  have ne40262 : o40036 ≠ o40251 := hn_ne g40240 n40254
  have ne40263 : o40063 ≠ o40251 := hn_ne g40241 n40254
  have ne40264 : o40093 ≠ o40251 := hn_ne g40242 n40254
  have ne40265 : o40146 ≠ o40251 := hn_ne g40243 n40254
  have ne40266 : l0 ≠ o40251 := hn_ne g40244 n40254
  have ne40267 : l1 ≠ o40251 := hn_ne g40245 n40254
  have ne40268 : l2 ≠ o40251 := hn_ne g40246 n40254
  have ne40269 : l3 ≠ o40251 := hn_ne g40247 n40254
  have ne40270 : d0 ≠ o40251 := hn_ne g40248 n40254
  have ne40271 : d1 ≠ o40251 := hn_ne g40249 n40254
  have ne40272 : d2 ≠ o40251 := hn_ne g40250 n40254
  have g40273 := k40256 _ _ List.not_mem_nil g40236
  have g40274 := k40256 _ _ List.not_mem_nil g40237
  have g40275 := k40256 _ _ List.not_mem_nil g40238
  have g40276 := k40256 _ _ List.not_mem_nil g40239
  have g40277 := k40256 _ _ List.not_mem_nil g40240
  have g40278 := k40256 _ _ List.not_mem_nil g40241
  have g40279 := k40256 _ _ List.not_mem_nil g40242
  have g40280 := k40256 _ _ List.not_mem_nil g40243
  have g40281 := k40256 _ _ List.not_mem_nil g40244
  have g40282 := k40256 _ _ List.not_mem_nil g40245
  have g40283 := k40256 _ _ List.not_mem_nil g40246
  have g40284 := k40256 _ _ List.not_mem_nil g40247
  have g40285 := k40256 _ _ List.not_mem_nil g40248
  have g40286 := k40256 _ _ List.not_mem_nil g40249
  have g40287 := k40256 _ _ List.not_mem_nil g40250
  refine hh_putF 71 2 C hin (ref := "QuotedRiver") (fs2 := [.ref o40001, .ref o40146, .ref o40251, .null, .int 0, .int 0, .int 0, .null, .null, .null, .int 0, .null, .int 0, .null, .null]) tyX0_ok nmX0 in_X0 g40273 rfl (by decide) q555 (fun _ h9 => h9) rfl rfl (tyX0_ok 2 (by decide)) rfl rfl (Nat.le_of_ble_eq_true rfl) rfl dX0_init_68 rfl (fun h40288 e40289 => ?_)
  have k40290 := hu_fr e40289
  have g40291 := hu_at e40289
  clear e40289
  have g40292 := k40290 _ _ (nm1 (Ne.symm nad)) g40274
  have g40293 := k40290 _ _ (nm1 (Ne.symm ne40008)) g40275
  have g40294 := k40290 _ _ (nm1 (Ne.symm ne40019)) g40276
  have g40295 := k40290 _ _ (nm1 (Ne.symm ne40043)) g40277
  have g40296 := k40290 _ _ (nm1 (Ne.symm ne40070)) g40278
  have g40297 := k40290 _ _ (nm1 (Ne.symm ne40100)) g40279
  have g40298 := k40290 _ _ (nm1 (Ne.symm ne40153)) g40280
  have g40299 := k40290 _ _ (nm1 (Ne.symm ne40170)) g40281
  have g40300 := k40290 _ _ (nm1 (Ne.symm ne40178)) g40282
  have g40301 := k40290 _ _ (nm1 (Ne.symm ne40186)) g40283
  have g40302 := k40290 _ _ (nm1 (Ne.symm ne40194)) g40284
  have g40303 := k40290 _ _ (nm1 (Ne.symm ne40202)) g40285
  have g40304 := k40290 _ _ (nm1 (Ne.symm ne40210)) g40286
  have g40305 := k40290 _ _ (nm1 (Ne.symm ne40218)) g40287
  have g40306 := k40290 _ _ (nm1 (Ne.symm ne40258)) g40257
  refine ga_aload_n 72 C.c 0 rfl rfl dX0_init_71 rfl ?_
  refine ga_sipush 75 C.c (v := 700) (by decide) dX0_init_72 rfl ?_
  refine hh_newa 77 2 C (atype := .byte) (a0 := (700, .inl (fun _ => 0))) q226 rfl rfl (fun _ => rfl) (by decide) (by decide) (by decide) (Nat.le_of_ble_eq_true rfl) (Nat.le_of_ble_eq_true rfl) dX0_init_75 rfl (fun o40307 h40308 n40310 a40311 e40309 => ?_)
  have k40312 := hu_fr0 e40309 n40310
  have g40313 := hu_at e40309
  clear e40309
  have ne40314 : a ≠ o40307 := hn_ne g40291 n40310
  have ne40315 : (dE 0) ≠ o40307 := hn_ne g40292 n40310
  have ne40316 : o40001 ≠ o40307 := hn_ne g40293 n40310
  have ne40317 : o40012 ≠ o40307 := hn_ne g40294 n40310
  have ne40318 : o40036 ≠ o40307 := hn_ne g40295 n40310
  have ne40319 : o40063 ≠ o40307 := hn_ne g40296 n40310
  have ne40320 : o40093 ≠ o40307 := hn_ne g40297 n40310
  have ne40321 : o40146 ≠ o40307 := hn_ne g40298 n40310
  have ne40322 : l0 ≠ o40307 := hn_ne g40299 n40310
  have ne40323 : l1 ≠ o40307 := hn_ne g40300 n40310
  have ne40324 : l2 ≠ o40307 := hn_ne g40301 n40310
  have ne40325 : l3 ≠ o40307 := hn_ne g40302 n40310
  have ne40326 : d0 ≠ o40307 := hn_ne g40303 n40310
  have ne40327 : d1 ≠ o40307 := hn_ne g40304 n40310
  have ne40328 : d2 ≠ o40307 := hn_ne g40305 n40310
  have ne40329 : o40251 ≠ o40307 := hn_ne g40306 n40310
  have g40330 := k40312 _ _ List.not_mem_nil g40291
  have g40331 := k40312 _ _ List.not_mem_nil g40292
  have g40332 := k40312 _ _ List.not_mem_nil g40293
  have g40333 := k40312 _ _ List.not_mem_nil g40294
  have g40334 := k40312 _ _ List.not_mem_nil g40295
  have g40335 := k40312 _ _ List.not_mem_nil g40296
  have g40336 := k40312 _ _ List.not_mem_nil g40297
  have g40337 := k40312 _ _ List.not_mem_nil g40298
  have g40338 := k40312 _ _ List.not_mem_nil g40299
  have g40339 := k40312 _ _ List.not_mem_nil g40300
  have g40340 := k40312 _ _ List.not_mem_nil g40301
  have g40341 := k40312 _ _ List.not_mem_nil g40302
  have g40342 := k40312 _ _ List.not_mem_nil g40303
  have g40343 := k40312 _ _ List.not_mem_nil g40304
  have g40344 := k40312 _ _ List.not_mem_nil g40305
  have g40345 := k40312 _ _ List.not_mem_nil g40306
  refine hh_putF 80 3 C hin (ref := "QuotedRiver") (fs2 := [.ref o40001, .ref o40146, .ref o40251, .ref o40307, .int 0, .int 0, .int 0, .null, .null, .null, .int 0, .null, .int 0, .null, .null]) tyX0_ok nmX0 in_X0 g40330 rfl (by decide) q556 (fun _ h9 => h9) rfl rfl (tyX0_ok 3 (by decide)) rfl rfl (Nat.le_of_ble_eq_true rfl) rfl dX0_init_77 rfl (fun h40346 e40347 => ?_)
  have k40348 := hu_fr e40347
  have g40349 := hu_at e40347
  clear e40347
  have g40350 := k40348 _ _ (nm1 (Ne.symm nad)) g40331
  have g40351 := k40348 _ _ (nm1 (Ne.symm ne40008)) g40332
  have g40352 := k40348 _ _ (nm1 (Ne.symm ne40019)) g40333
  have g40353 := k40348 _ _ (nm1 (Ne.symm ne40043)) g40334
  have g40354 := k40348 _ _ (nm1 (Ne.symm ne40070)) g40335
  have g40355 := k40348 _ _ (nm1 (Ne.symm ne40100)) g40336
  have g40356 := k40348 _ _ (nm1 (Ne.symm ne40153)) g40337
  have g40357 := k40348 _ _ (nm1 (Ne.symm ne40170)) g40338
  have g40358 := k40348 _ _ (nm1 (Ne.symm ne40178)) g40339
  have g40359 := k40348 _ _ (nm1 (Ne.symm ne40186)) g40340
  have g40360 := k40348 _ _ (nm1 (Ne.symm ne40194)) g40341
  have g40361 := k40348 _ _ (nm1 (Ne.symm ne40202)) g40342
  have g40362 := k40348 _ _ (nm1 (Ne.symm ne40210)) g40343
  have g40363 := k40348 _ _ (nm1 (Ne.symm ne40218)) g40344
  have g40364 := k40348 _ _ (nm1 (Ne.symm ne40258)) g40345
  have g40365 := k40348 _ _ (nm1 (Ne.symm ne40314)) g40313
  refine ga_aload_n 81 C.c 0 rfl rfl dX0_init_80 rfl ?_
  refine ga_iconst 82 C.c (v := (-1)) (by decide) dX0_init_81 rfl ?_
  refine hh_put 85 6 C (ref := "QuotedRiver") (fs2 := [.ref o40001, .ref o40146, .ref o40251, .ref o40307, .int 0, .int 0, .int (-1), .null, .null, .null, .int 0, .null, .int 0, .null, .null]) tyX0_ok nmX0 in_X0 g40349 rfl (by decide) q559 (fun _ h9 => h9) rfl (tyX0_ok 6 (by decide)) rfl rfl (Nat.le_of_ble_eq_true rfl) rfl dX0_init_82 rfl (fun h40366 e40367 => ?_)
  have k40368 := hu_fr e40367
  have g40369 := hu_at e40367
  clear e40367
  have g40370 := k40368 _ _ (nm1 (Ne.symm nad)) g40350
  have g40371 := k40368 _ _ (nm1 (Ne.symm ne40008)) g40351
  have g40372 := k40368 _ _ (nm1 (Ne.symm ne40019)) g40352
  have g40373 := k40368 _ _ (nm1 (Ne.symm ne40043)) g40353
  have g40374 := k40368 _ _ (nm1 (Ne.symm ne40070)) g40354
  have g40375 := k40368 _ _ (nm1 (Ne.symm ne40100)) g40355
  have g40376 := k40368 _ _ (nm1 (Ne.symm ne40153)) g40356
  have g40377 := k40368 _ _ (nm1 (Ne.symm ne40170)) g40357
  have g40378 := k40368 _ _ (nm1 (Ne.symm ne40178)) g40358
  have g40379 := k40368 _ _ (nm1 (Ne.symm ne40186)) g40359
  have g40380 := k40368 _ _ (nm1 (Ne.symm ne40194)) g40360
  have g40381 := k40368 _ _ (nm1 (Ne.symm ne40202)) g40361
  have g40382 := k40368 _ _ (nm1 (Ne.symm ne40210)) g40362
  have g40383 := k40368 _ _ (nm1 (Ne.symm ne40218)) g40363
  have g40384 := k40368 _ _ (nm1 (Ne.symm ne40258)) g40364
  have g40385 := k40368 _ _ (nm1 (Ne.symm ne40314)) g40365
  refine ga_aload_n 86 C.c 0 rfl rfl dX0_init_85 rfl ?_
  refine hh_new 89 C (ci := 4) (fs := [.null, .null, .int 0, .int 0, .int 0, .int 0, .int 0, .int 0, .null]) tyX3 tyX3_ok in_X3 q435 q436 q99 rfl (fun j hj => by rcases (show j = 0 ∨ j = 1 ∨ j = 2 ∨ j = 3 ∨ j = 4 ∨ j = 5 ∨ j = 6 ∨ j = 7 ∨ j = 8 by omega) with rfl | rfl | rfl | rfl | rfl | rfl | rfl | rfl | rfl <;> rfl) (Nat.le_of_ble_eq_true rfl) (Nat.le_of_ble_eq_true rfl) dX0_init_86 rfl (fun o40386 h40387 n40389 a40390 e40388 => ?_)
  have k40391 := hu_fr0 e40388 n40389
  have g40392 := hu_at e40388
  clear e40388
  have ne40393 : a ≠ o40386 := hn_ne g40369 n40389
  have ne40394 : (dE 0) ≠ o40386 := hn_ne g40370 n40389
  have ne40395 : o40001 ≠ o40386 := hn_ne g40371 n40389
  have ne40396 : o40012 ≠ o40386 := hn_ne g40372 n40389
  have ne40397 : o40036 ≠ o40386 := hn_ne g40373 n40389
  have ne40398 : o40063 ≠ o40386 := hn_ne g40374 n40389
  have ne40399 : o40093 ≠ o40386 := hn_ne g40375 n40389
  have ne40400 : o40146 ≠ o40386 := hn_ne g40376 n40389
  have ne40401 : l0 ≠ o40386 := hn_ne g40377 n40389
  have ne40402 : l1 ≠ o40386 := hn_ne g40378 n40389
  have ne40403 : l2 ≠ o40386 := hn_ne g40379 n40389
  have ne40404 : l3 ≠ o40386 := hn_ne g40380 n40389
  have ne40405 : d0 ≠ o40386 := hn_ne g40381 n40389
  have ne40406 : d1 ≠ o40386 := hn_ne g40382 n40389
  have ne40407 : d2 ≠ o40386 := hn_ne g40383 n40389
  have ne40408 : o40251 ≠ o40386 := hn_ne g40384 n40389
  have ne40409 : o40307 ≠ o40386 := hn_ne g40385 n40389
  have g40410 := k40391 _ _ List.not_mem_nil g40369
  have g40411 := k40391 _ _ List.not_mem_nil g40370
  have g40412 := k40391 _ _ List.not_mem_nil g40371
  have g40413 := k40391 _ _ List.not_mem_nil g40372
  have g40414 := k40391 _ _ List.not_mem_nil g40373
  have g40415 := k40391 _ _ List.not_mem_nil g40374
  have g40416 := k40391 _ _ List.not_mem_nil g40375
  have g40417 := k40391 _ _ List.not_mem_nil g40376
  have g40418 := k40391 _ _ List.not_mem_nil g40377
  have g40419 := k40391 _ _ List.not_mem_nil g40378
  have g40420 := k40391 _ _ List.not_mem_nil g40379
  have g40421 := k40391 _ _ List.not_mem_nil g40380
  have g40422 := k40391 _ _ List.not_mem_nil g40381
  have g40423 := k40391 _ _ List.not_mem_nil g40382
  have g40424 := k40391 _ _ List.not_mem_nil g40383
  have g40425 := k40391 _ _ List.not_mem_nil g40384
  have g40426 := k40391 _ _ List.not_mem_nil g40385
  refine ga_dup 90 C.c rfl dX0_init_89 rfl ?_
  refine ga_aload_n 91 C.c 0 rfl rfl dX0_init_90 rfl ?_
  refine hh_callIN 94 C (as := [.ref a]) (met_X3_init (eL E) D kk dE A _ o40386 a g40392) q437 q438 q99 q439 rfl cd_X3_init rfl (Nat.le_of_ble_eq_true rfl) (Nat.le_of_ble_eq_true rfl) (Nat.le_of_ble_eq_true rfl) (Nat.le_of_ble_eq_true rfl) (Nat.le_of_ble_eq_true rfl) dX0_init_91 rfl (fun v40428 h40427 p40429 => ?_)
  obtain ⟨rfl, o40386x0, o40386x1, yo40386x0, yo40386x1, zo40386, gao40386, go40386x0, go40386x1, kao40386⟩ := p40429
  have ne40430 : a ≠ o40386x0 := hn_ne g40410 yo40386x0
  have ne40431 : (dE 0) ≠ o40386x0 := hn_ne g40411 yo40386x0
  have ne40432 : o40001 ≠ o40386x0 := hn_ne g40412 yo40386x0
  have ne40433 : o40012 ≠ o40386x0 := hn_ne g40413 yo40386x0
  have ne40434 : o40036 ≠ o40386x0 := hn_ne g40414 yo40386x0
  have ne40435 : o40063 ≠ o40386x0 := hn_ne g40415 yo40386x0
  have ne40436 : o40093 ≠ o40386x0 := hn_ne g40416 yo40386x0
  have ne40437 : o40146 ≠ o40386x0 := hn_ne g40417 yo40386x0
  have ne40438 : l0 ≠ o40386x0 := hn_ne g40418 yo40386x0
  have ne40439 : l1 ≠ o40386x0 := hn_ne g40419 yo40386x0
  have ne40440 : l2 ≠ o40386x0 := hn_ne g40420 yo40386x0
  have ne40441 : l3 ≠ o40386x0 := hn_ne g40421 yo40386x0
  have ne40442 : d0 ≠ o40386x0 := hn_ne g40422 yo40386x0
  have ne40443 : d1 ≠ o40386x0 := hn_ne g40423 yo40386x0
  have ne40444 : d2 ≠ o40386x0 := hn_ne g40424 yo40386x0
  have ne40445 : o40251 ≠ o40386x0 := hn_ne g40425 yo40386x0
  have ne40446 : o40307 ≠ o40386x0 := hn_ne g40426 yo40386x0
  have ne40447 : o40386 ≠ o40386x0 := hn_ne g40392 yo40386x0
  have ne40448 : a ≠ o40386x1 := hn_ne g40410 yo40386x1
  have ne40449 : (dE 0) ≠ o40386x1 := hn_ne g40411 yo40386x1
  have ne40450 : o40001 ≠ o40386x1 := hn_ne g40412 yo40386x1
  have ne40451 : o40012 ≠ o40386x1 := hn_ne g40413 yo40386x1
  have ne40452 : o40036 ≠ o40386x1 := hn_ne g40414 yo40386x1
  have ne40453 : o40063 ≠ o40386x1 := hn_ne g40415 yo40386x1
  have ne40454 : o40093 ≠ o40386x1 := hn_ne g40416 yo40386x1
  have ne40455 : o40146 ≠ o40386x1 := hn_ne g40417 yo40386x1
  have ne40456 : l0 ≠ o40386x1 := hn_ne g40418 yo40386x1
  have ne40457 : l1 ≠ o40386x1 := hn_ne g40419 yo40386x1
  have ne40458 : l2 ≠ o40386x1 := hn_ne g40420 yo40386x1
  have ne40459 : l3 ≠ o40386x1 := hn_ne g40421 yo40386x1
  have ne40460 : d0 ≠ o40386x1 := hn_ne g40422 yo40386x1
  have ne40461 : d1 ≠ o40386x1 := hn_ne g40423 yo40386x1
  have ne40462 : d2 ≠ o40386x1 := hn_ne g40424 yo40386x1
  have ne40463 : o40251 ≠ o40386x1 := hn_ne g40425 yo40386x1
  have ne40464 : o40307 ≠ o40386x1 := hn_ne g40426 yo40386x1
  have ne40465 : o40386 ≠ o40386x1 := hn_ne g40392 yo40386x1
  have g40466 := kao40386 _ _ (nm1 ne40393) g40410
  have g40467 := kao40386 _ _ (nm1 ne40394) g40411
  have g40468 := kao40386 _ _ (nm1 ne40395) g40412
  have g40469 := kao40386 _ _ (nm1 ne40396) g40413
  have g40470 := kao40386 _ _ (nm1 ne40397) g40414
  have g40471 := kao40386 _ _ (nm1 ne40398) g40415
  have g40472 := kao40386 _ _ (nm1 ne40399) g40416
  have g40473 := kao40386 _ _ (nm1 ne40400) g40417
  have g40474 := kao40386 _ _ (nm1 ne40401) g40418
  have g40475 := kao40386 _ _ (nm1 ne40402) g40419
  have g40476 := kao40386 _ _ (nm1 ne40403) g40420
  have g40477 := kao40386 _ _ (nm1 ne40404) g40421
  have g40478 := kao40386 _ _ (nm1 ne40405) g40422
  have g40479 := kao40386 _ _ (nm1 ne40406) g40423
  have g40480 := kao40386 _ _ (nm1 ne40407) g40424
  have g40481 := kao40386 _ _ (nm1 ne40408) g40425
  have g40482 := kao40386 _ _ (nm1 ne40409) g40426
  refine hh_putF 97 7 C hin (ref := "QuotedRiver") (fs2 := [.ref o40001, .ref o40146, .ref o40251, .ref o40307, .int 0, .int 0, .int (-1), .ref o40386, .null, .null, .int 0, .null, .int 0, .null, .null]) tyX0_ok nmX0 in_X0 g40466 rfl (by decide) q562 (fun _ h9 => h9) rfl rfl (tyX0_ok 7 (by decide)) rfl rfl (Nat.le_of_ble_eq_true rfl) rfl dX0_init_94 rfl (fun h40483 e40484 => ?_)
  have k40485 := hu_fr e40484
  have g40486 := hu_at e40484
  clear e40484
  have g40487 := k40485 _ _ (nm1 (Ne.symm nad)) g40467
  have g40488 := k40485 _ _ (nm1 (Ne.symm ne40008)) g40468
  have g40489 := k40485 _ _ (nm1 (Ne.symm ne40019)) g40469
  have g40490 := k40485 _ _ (nm1 (Ne.symm ne40043)) g40470
  have g40491 := k40485 _ _ (nm1 (Ne.symm ne40070)) g40471
  have g40492 := k40485 _ _ (nm1 (Ne.symm ne40100)) g40472
  have g40493 := k40485 _ _ (nm1 (Ne.symm ne40153)) g40473
  have g40494 := k40485 _ _ (nm1 (Ne.symm ne40170)) g40474
  have g40495 := k40485 _ _ (nm1 (Ne.symm ne40178)) g40475
  have g40496 := k40485 _ _ (nm1 (Ne.symm ne40186)) g40476
  have g40497 := k40485 _ _ (nm1 (Ne.symm ne40194)) g40477
  have g40498 := k40485 _ _ (nm1 (Ne.symm ne40202)) g40478
  have g40499 := k40485 _ _ (nm1 (Ne.symm ne40210)) g40479
  have g40500 := k40485 _ _ (nm1 (Ne.symm ne40218)) g40480
  have g40501 := k40485 _ _ (nm1 (Ne.symm ne40258)) g40481
  have g40502 := k40485 _ _ (nm1 (Ne.symm ne40314)) g40482
  have g40503 := k40485 _ _ (nm1 (Ne.symm ne40393)) gao40386
  have g40504 := k40485 _ _ (nm1 (Ne.symm ne40430)) go40386x0
  have g40505 := k40485 _ _ (nm1 (Ne.symm ne40448)) go40386x1
  refine ga_aload_n 98 C.c 0 rfl rfl dX0_init_97 rfl ?_
  refine hh_new 101 C (ci := 5) (fs := [.null, .int 0, .int 0, .int 0, .int 0, .int 0, .int 0, .int 0, .null]) tyX4 tyX4_ok in_X4 q478 q479 q100 rfl (fun j hj => by rcases (show j = 0 ∨ j = 1 ∨ j = 2 ∨ j = 3 ∨ j = 4 ∨ j = 5 ∨ j = 6 ∨ j = 7 ∨ j = 8 by omega) with rfl | rfl | rfl | rfl | rfl | rfl | rfl | rfl | rfl <;> rfl) (Nat.le_of_ble_eq_true rfl) (Nat.le_of_ble_eq_true rfl) dX0_init_98 rfl (fun o40506 h40507 n40509 a40510 e40508 => ?_)
  have k40511 := hu_fr0 e40508 n40509
  have g40512 := hu_at e40508
  clear e40508
  have ne40513 : a ≠ o40506 := hn_ne g40486 n40509
  have ne40514 : (dE 0) ≠ o40506 := hn_ne g40487 n40509
  have ne40515 : o40001 ≠ o40506 := hn_ne g40488 n40509
  have ne40516 : o40012 ≠ o40506 := hn_ne g40489 n40509
  have ne40517 : o40036 ≠ o40506 := hn_ne g40490 n40509
  have ne40518 : o40063 ≠ o40506 := hn_ne g40491 n40509
  have ne40519 : o40093 ≠ o40506 := hn_ne g40492 n40509
  have ne40520 : o40146 ≠ o40506 := hn_ne g40493 n40509
  have ne40521 : l0 ≠ o40506 := hn_ne g40494 n40509
  have ne40522 : l1 ≠ o40506 := hn_ne g40495 n40509
  have ne40523 : l2 ≠ o40506 := hn_ne g40496 n40509
  have ne40524 : l3 ≠ o40506 := hn_ne g40497 n40509
  have ne40525 : d0 ≠ o40506 := hn_ne g40498 n40509
  have ne40526 : d1 ≠ o40506 := hn_ne g40499 n40509
  have ne40527 : d2 ≠ o40506 := hn_ne g40500 n40509
  have ne40528 : o40251 ≠ o40506 := hn_ne g40501 n40509
  have ne40529 : o40307 ≠ o40506 := hn_ne g40502 n40509
  have ne40530 : o40386 ≠ o40506 := hn_ne g40503 n40509
  have ne40531 : o40386x0 ≠ o40506 := hn_ne g40504 n40509
  have ne40532 : o40386x1 ≠ o40506 := hn_ne g40505 n40509
  have g40533 := k40511 _ _ List.not_mem_nil g40486
  have g40534 := k40511 _ _ List.not_mem_nil g40487
  have g40535 := k40511 _ _ List.not_mem_nil g40488
  have g40536 := k40511 _ _ List.not_mem_nil g40489
  have g40537 := k40511 _ _ List.not_mem_nil g40490
  have g40538 := k40511 _ _ List.not_mem_nil g40491
  have g40539 := k40511 _ _ List.not_mem_nil g40492
  have g40540 := k40511 _ _ List.not_mem_nil g40493
  have g40541 := k40511 _ _ List.not_mem_nil g40494
  have g40542 := k40511 _ _ List.not_mem_nil g40495
  have g40543 := k40511 _ _ List.not_mem_nil g40496
  have g40544 := k40511 _ _ List.not_mem_nil g40497
  have g40545 := k40511 _ _ List.not_mem_nil g40498
  have g40546 := k40511 _ _ List.not_mem_nil g40499
  have g40547 := k40511 _ _ List.not_mem_nil g40500
  have g40548 := k40511 _ _ List.not_mem_nil g40501
  have g40549 := k40511 _ _ List.not_mem_nil g40502
  have g40550 := k40511 _ _ List.not_mem_nil g40503
  have g40551 := k40511 _ _ List.not_mem_nil g40504
  have g40552 := k40511 _ _ List.not_mem_nil g40505
  refine ga_dup 102 C.c rfl dX0_init_101 rfl ?_
  refine ga_aload_n 103 C.c 0 rfl rfl dX0_init_102 rfl ?_
  refine hh_callIN 106 C (as := [.ref a]) (met_X4_init (eL E) D kk dE A _ o40506 a g40512) q480 q481 q100 q482 rfl cd_X4_init rfl (Nat.le_of_ble_eq_true rfl) (Nat.le_of_ble_eq_true rfl) (Nat.le_of_ble_eq_true rfl) (Nat.le_of_ble_eq_true rfl) (Nat.le_of_ble_eq_true rfl) dX0_init_103 rfl (fun v40554 h40553 p40555 => ?_)
  obtain ⟨rfl, o40506x0, yo40506x0, gao40506, go40506x0, kao40506⟩ := p40555
  have ne40556 : a ≠ o40506x0 := hn_ne g40533 yo40506x0
  have ne40557 : (dE 0) ≠ o40506x0 := hn_ne g40534 yo40506x0
  have ne40558 : o40001 ≠ o40506x0 := hn_ne g40535 yo40506x0
  have ne40559 : o40012 ≠ o40506x0 := hn_ne g40536 yo40506x0
  have ne40560 : o40036 ≠ o40506x0 := hn_ne g40537 yo40506x0
  have ne40561 : o40063 ≠ o40506x0 := hn_ne g40538 yo40506x0
  have ne40562 : o40093 ≠ o40506x0 := hn_ne g40539 yo40506x0
  have ne40563 : o40146 ≠ o40506x0 := hn_ne g40540 yo40506x0
  have ne40564 : l0 ≠ o40506x0 := hn_ne g40541 yo40506x0
  have ne40565 : l1 ≠ o40506x0 := hn_ne g40542 yo40506x0
  have ne40566 : l2 ≠ o40506x0 := hn_ne g40543 yo40506x0
  have ne40567 : l3 ≠ o40506x0 := hn_ne g40544 yo40506x0
  have ne40568 : d0 ≠ o40506x0 := hn_ne g40545 yo40506x0
  have ne40569 : d1 ≠ o40506x0 := hn_ne g40546 yo40506x0
  have ne40570 : d2 ≠ o40506x0 := hn_ne g40547 yo40506x0
  have ne40571 : o40251 ≠ o40506x0 := hn_ne g40548 yo40506x0
  have ne40572 : o40307 ≠ o40506x0 := hn_ne g40549 yo40506x0
  have ne40573 : o40386 ≠ o40506x0 := hn_ne g40550 yo40506x0
  have ne40574 : o40386x0 ≠ o40506x0 := hn_ne g40551 yo40506x0
  have ne40575 : o40386x1 ≠ o40506x0 := hn_ne g40552 yo40506x0
  have ne40576 : o40506 ≠ o40506x0 := hn_ne g40512 yo40506x0
  have g40577 := kao40506 _ _ (nm1 ne40513) g40533
  have g40578 := kao40506 _ _ (nm1 ne40514) g40534
  have g40579 := kao40506 _ _ (nm1 ne40515) g40535
  have g40580 := kao40506 _ _ (nm1 ne40516) g40536
  have g40581 := kao40506 _ _ (nm1 ne40517) g40537
  have g40582 := kao40506 _ _ (nm1 ne40518) g40538
  have g40583 := kao40506 _ _ (nm1 ne40519) g40539
  have g40584 := kao40506 _ _ (nm1 ne40520) g40540
  have g40585 := kao40506 _ _ (nm1 ne40521) g40541
  have g40586 := kao40506 _ _ (nm1 ne40522) g40542
  have g40587 := kao40506 _ _ (nm1 ne40523) g40543
  have g40588 := kao40506 _ _ (nm1 ne40524) g40544
  have g40589 := kao40506 _ _ (nm1 ne40525) g40545
  have g40590 := kao40506 _ _ (nm1 ne40526) g40546
  have g40591 := kao40506 _ _ (nm1 ne40527) g40547
  have g40592 := kao40506 _ _ (nm1 ne40528) g40548
  have g40593 := kao40506 _ _ (nm1 ne40529) g40549
  have g40594 := kao40506 _ _ (nm1 ne40530) g40550
  have g40595 := kao40506 _ _ (nm1 ne40531) g40551
  have g40596 := kao40506 _ _ (nm1 ne40532) g40552
  refine hh_putF 109 8 C hin (ref := "QuotedRiver") (fs2 := [.ref o40001, .ref o40146, .ref o40251, .ref o40307, .int 0, .int 0, .int (-1), .ref o40386, .ref o40506, .null, .int 0, .null, .int 0, .null, .null]) tyX0_ok nmX0 in_X0 g40577 rfl (by decide) q564 (fun _ h9 => h9) rfl rfl (tyX0_ok 8 (by decide)) rfl rfl (Nat.le_of_ble_eq_true rfl) rfl dX0_init_106 rfl (fun h40597 e40598 => ?_)
  have k40599 := hu_fr e40598
  have g40600 := hu_at e40598
  clear e40598
  have g40601 := k40599 _ _ (nm1 (Ne.symm nad)) g40578
  have g40602 := k40599 _ _ (nm1 (Ne.symm ne40008)) g40579
  have g40603 := k40599 _ _ (nm1 (Ne.symm ne40019)) g40580
  have g40604 := k40599 _ _ (nm1 (Ne.symm ne40043)) g40581
  have g40605 := k40599 _ _ (nm1 (Ne.symm ne40070)) g40582
  have g40606 := k40599 _ _ (nm1 (Ne.symm ne40100)) g40583
  have g40607 := k40599 _ _ (nm1 (Ne.symm ne40153)) g40584
  have g40608 := k40599 _ _ (nm1 (Ne.symm ne40170)) g40585
  have g40609 := k40599 _ _ (nm1 (Ne.symm ne40178)) g40586
  have g40610 := k40599 _ _ (nm1 (Ne.symm ne40186)) g40587
  have g40611 := k40599 _ _ (nm1 (Ne.symm ne40194)) g40588
  have g40612 := k40599 _ _ (nm1 (Ne.symm ne40202)) g40589
  have g40613 := k40599 _ _ (nm1 (Ne.symm ne40210)) g40590
  have g40614 := k40599 _ _ (nm1 (Ne.symm ne40218)) g40591
  have g40615 := k40599 _ _ (nm1 (Ne.symm ne40258)) g40592
  have g40616 := k40599 _ _ (nm1 (Ne.symm ne40314)) g40593
  have g40617 := k40599 _ _ (nm1 (Ne.symm ne40393)) g40594
  have g40618 := k40599 _ _ (nm1 (Ne.symm ne40430)) g40595
  have g40619 := k40599 _ _ (nm1 (Ne.symm ne40448)) g40596
  have g40620 := k40599 _ _ (nm1 (Ne.symm ne40513)) gao40506
  have g40621 := k40599 _ _ (nm1 (Ne.symm ne40556)) go40506x0
  refine ga_aload_n 110 C.c 0 rfl rfl dX0_init_109 rfl ?_
  refine hh_new 113 C (ci := 5) (fs := [.null, .int 0, .int 0, .int 0, .int 0, .int 0, .int 0, .int 0, .null]) tyX4 tyX4_ok in_X4 q478 q479 q100 rfl (fun j hj => by rcases (show j = 0 ∨ j = 1 ∨ j = 2 ∨ j = 3 ∨ j = 4 ∨ j = 5 ∨ j = 6 ∨ j = 7 ∨ j = 8 by omega) with rfl | rfl | rfl | rfl | rfl | rfl | rfl | rfl | rfl <;> rfl) (Nat.le_of_ble_eq_true rfl) (Nat.le_of_ble_eq_true rfl) dX0_init_110 rfl (fun o40622 h40623 n40625 a40626 e40624 => ?_)
  have k40627 := hu_fr0 e40624 n40625
  have g40628 := hu_at e40624
  clear e40624
  have ne40629 : a ≠ o40622 := hn_ne g40600 n40625
  have ne40630 : (dE 0) ≠ o40622 := hn_ne g40601 n40625
  have ne40631 : o40001 ≠ o40622 := hn_ne g40602 n40625
  have ne40632 : o40012 ≠ o40622 := hn_ne g40603 n40625
  have ne40633 : o40036 ≠ o40622 := hn_ne g40604 n40625
  have ne40634 : o40063 ≠ o40622 := hn_ne g40605 n40625
  have ne40635 : o40093 ≠ o40622 := hn_ne g40606 n40625
  have ne40636 : o40146 ≠ o40622 := hn_ne g40607 n40625
  have ne40637 : l0 ≠ o40622 := hn_ne g40608 n40625
  have ne40638 : l1 ≠ o40622 := hn_ne g40609 n40625
  have ne40639 : l2 ≠ o40622 := hn_ne g40610 n40625
  have ne40640 : l3 ≠ o40622 := hn_ne g40611 n40625
  have ne40641 : d0 ≠ o40622 := hn_ne g40612 n40625
  have ne40642 : d1 ≠ o40622 := hn_ne g40613 n40625
  have ne40643 : d2 ≠ o40622 := hn_ne g40614 n40625
  have ne40644 : o40251 ≠ o40622 := hn_ne g40615 n40625
  have ne40645 : o40307 ≠ o40622 := hn_ne g40616 n40625
  have ne40646 : o40386 ≠ o40622 := hn_ne g40617 n40625
  have ne40647 : o40386x0 ≠ o40622 := hn_ne g40618 n40625
  have ne40648 : o40386x1 ≠ o40622 := hn_ne g40619 n40625
  have ne40649 : o40506 ≠ o40622 := hn_ne g40620 n40625
  have ne40650 : o40506x0 ≠ o40622 := hn_ne g40621 n40625
  have g40651 := k40627 _ _ List.not_mem_nil g40600
  have g40652 := k40627 _ _ List.not_mem_nil g40601
  have g40653 := k40627 _ _ List.not_mem_nil g40602
  have g40654 := k40627 _ _ List.not_mem_nil g40603
  have g40655 := k40627 _ _ List.not_mem_nil g40604
  have g40656 := k40627 _ _ List.not_mem_nil g40605
  have g40657 := k40627 _ _ List.not_mem_nil g40606
  have g40658 := k40627 _ _ List.not_mem_nil g40607
  have g40659 := k40627 _ _ List.not_mem_nil g40608
  have g40660 := k40627 _ _ List.not_mem_nil g40609
  have g40661 := k40627 _ _ List.not_mem_nil g40610
  have g40662 := k40627 _ _ List.not_mem_nil g40611
  have g40663 := k40627 _ _ List.not_mem_nil g40612
  have g40664 := k40627 _ _ List.not_mem_nil g40613
  have g40665 := k40627 _ _ List.not_mem_nil g40614
  have g40666 := k40627 _ _ List.not_mem_nil g40615
  have g40667 := k40627 _ _ List.not_mem_nil g40616
  have g40668 := k40627 _ _ List.not_mem_nil g40617
  have g40669 := k40627 _ _ List.not_mem_nil g40618
  have g40670 := k40627 _ _ List.not_mem_nil g40619
  have g40671 := k40627 _ _ List.not_mem_nil g40620
  have g40672 := k40627 _ _ List.not_mem_nil g40621
  refine ga_dup 114 C.c rfl dX0_init_113 rfl ?_
  refine ga_aload_n 115 C.c 0 rfl rfl dX0_init_114 rfl ?_
  refine hh_callIN 118 C (as := [.ref a]) (met_X4_init (eL E) D kk dE A _ o40622 a g40628) q480 q481 q100 q482 rfl cd_X4_init rfl (Nat.le_of_ble_eq_true rfl) (Nat.le_of_ble_eq_true rfl) (Nat.le_of_ble_eq_true rfl) (Nat.le_of_ble_eq_true rfl) (Nat.le_of_ble_eq_true rfl) dX0_init_115 rfl (fun v40674 h40673 p40675 => ?_)
  obtain ⟨rfl, o40622x0, yo40622x0, gao40622, go40622x0, kao40622⟩ := p40675
  have ne40676 : a ≠ o40622x0 := hn_ne g40651 yo40622x0
  have ne40677 : (dE 0) ≠ o40622x0 := hn_ne g40652 yo40622x0
  have ne40678 : o40001 ≠ o40622x0 := hn_ne g40653 yo40622x0
  have ne40679 : o40012 ≠ o40622x0 := hn_ne g40654 yo40622x0
  have ne40680 : o40036 ≠ o40622x0 := hn_ne g40655 yo40622x0
  have ne40681 : o40063 ≠ o40622x0 := hn_ne g40656 yo40622x0
  have ne40682 : o40093 ≠ o40622x0 := hn_ne g40657 yo40622x0
  have ne40683 : o40146 ≠ o40622x0 := hn_ne g40658 yo40622x0
  have ne40684 : l0 ≠ o40622x0 := hn_ne g40659 yo40622x0
  have ne40685 : l1 ≠ o40622x0 := hn_ne g40660 yo40622x0
  have ne40686 : l2 ≠ o40622x0 := hn_ne g40661 yo40622x0
  have ne40687 : l3 ≠ o40622x0 := hn_ne g40662 yo40622x0
  have ne40688 : d0 ≠ o40622x0 := hn_ne g40663 yo40622x0
  have ne40689 : d1 ≠ o40622x0 := hn_ne g40664 yo40622x0
  have ne40690 : d2 ≠ o40622x0 := hn_ne g40665 yo40622x0
  have ne40691 : o40251 ≠ o40622x0 := hn_ne g40666 yo40622x0
  have ne40692 : o40307 ≠ o40622x0 := hn_ne g40667 yo40622x0
  have ne40693 : o40386 ≠ o40622x0 := hn_ne g40668 yo40622x0
  have ne40694 : o40386x0 ≠ o40622x0 := hn_ne g40669 yo40622x0
  have ne40695 : o40386x1 ≠ o40622x0 := hn_ne g40670 yo40622x0
  have ne40696 : o40506 ≠ o40622x0 := hn_ne g40671 yo40622x0
  have ne40697 : o40506x0 ≠ o40622x0 := hn_ne g40672 yo40622x0
  have ne40698 : o40622 ≠ o40622x0 := hn_ne g40628 yo40622x0
  have g40699 := kao40622 _ _ (nm1 ne40629) g40651
  have g40700 := kao40622 _ _ (nm1 ne40630) g40652
  have g40701 := kao40622 _ _ (nm1 ne40631) g40653
  have g40702 := kao40622 _ _ (nm1 ne40632) g40654
  have g40703 := kao40622 _ _ (nm1 ne40633) g40655
  have g40704 := kao40622 _ _ (nm1 ne40634) g40656
  have g40705 := kao40622 _ _ (nm1 ne40635) g40657
  have g40706 := kao40622 _ _ (nm1 ne40636) g40658
  have g40707 := kao40622 _ _ (nm1 ne40637) g40659
  have g40708 := kao40622 _ _ (nm1 ne40638) g40660
  have g40709 := kao40622 _ _ (nm1 ne40639) g40661
  have g40710 := kao40622 _ _ (nm1 ne40640) g40662
  have g40711 := kao40622 _ _ (nm1 ne40641) g40663
  have g40712 := kao40622 _ _ (nm1 ne40642) g40664
  have g40713 := kao40622 _ _ (nm1 ne40643) g40665
  have g40714 := kao40622 _ _ (nm1 ne40644) g40666
  have g40715 := kao40622 _ _ (nm1 ne40645) g40667
  have g40716 := kao40622 _ _ (nm1 ne40646) g40668
  have g40717 := kao40622 _ _ (nm1 ne40647) g40669
  have g40718 := kao40622 _ _ (nm1 ne40648) g40670
  have g40719 := kao40622 _ _ (nm1 ne40649) g40671
  have g40720 := kao40622 _ _ (nm1 ne40650) g40672
  refine hh_putF 121 9 C hin (ref := "QuotedRiver") (fs2 := [.ref o40001, .ref o40146, .ref o40251, .ref o40307, .int 0, .int 0, .int (-1), .ref o40386, .ref o40506, .ref o40622, .int 0, .null, .int 0, .null, .null]) tyX0_ok nmX0 in_X0 g40699 rfl (by decide) q565 (fun _ h9 => h9) rfl rfl (tyX0_ok 9 (by decide)) rfl rfl (Nat.le_of_ble_eq_true rfl) rfl dX0_init_118 rfl (fun h40721 e40722 => ?_)
  have k40723 := hu_fr e40722
  have g40724 := hu_at e40722
  clear e40722
  have g40725 := k40723 _ _ (nm1 (Ne.symm nad)) g40700
  have g40726 := k40723 _ _ (nm1 (Ne.symm ne40008)) g40701
  have g40727 := k40723 _ _ (nm1 (Ne.symm ne40019)) g40702
  have g40728 := k40723 _ _ (nm1 (Ne.symm ne40043)) g40703
  have g40729 := k40723 _ _ (nm1 (Ne.symm ne40070)) g40704
  have g40730 := k40723 _ _ (nm1 (Ne.symm ne40100)) g40705
  have g40731 := k40723 _ _ (nm1 (Ne.symm ne40153)) g40706
  have g40732 := k40723 _ _ (nm1 (Ne.symm ne40170)) g40707
  have g40733 := k40723 _ _ (nm1 (Ne.symm ne40178)) g40708
  have g40734 := k40723 _ _ (nm1 (Ne.symm ne40186)) g40709
  have g40735 := k40723 _ _ (nm1 (Ne.symm ne40194)) g40710
  have g40736 := k40723 _ _ (nm1 (Ne.symm ne40202)) g40711
  have g40737 := k40723 _ _ (nm1 (Ne.symm ne40210)) g40712
  have g40738 := k40723 _ _ (nm1 (Ne.symm ne40218)) g40713
  have g40739 := k40723 _ _ (nm1 (Ne.symm ne40258)) g40714
  have g40740 := k40723 _ _ (nm1 (Ne.symm ne40314)) g40715
  have g40741 := k40723 _ _ (nm1 (Ne.symm ne40393)) g40716
  have g40742 := k40723 _ _ (nm1 (Ne.symm ne40430)) g40717
  have g40743 := k40723 _ _ (nm1 (Ne.symm ne40448)) g40718
  have g40744 := k40723 _ _ (nm1 (Ne.symm ne40513)) g40719
  have g40745 := k40723 _ _ (nm1 (Ne.symm ne40556)) g40720
  have g40746 := k40723 _ _ (nm1 (Ne.symm ne40629)) gao40622
  have g40747 := k40723 _ _ (nm1 (Ne.symm ne40676)) go40622x0
  refine ga_aload_n 122 C.c 0 rfl rfl dX0_init_121 rfl ?_
  refine hh_new 125 C (ci := 6) (fs := [.null, .int 0, .int 0, .int 0, .int 0, .int 0, .null]) tyX5 tyX5_ok in_X5 q519 q520 q101 rfl (fun j hj => by rcases (show j = 0 ∨ j = 1 ∨ j = 2 ∨ j = 3 ∨ j = 4 ∨ j = 5 ∨ j = 6 by omega) with rfl | rfl | rfl | rfl | rfl | rfl | rfl <;> rfl) (Nat.le_of_ble_eq_true rfl) (Nat.le_of_ble_eq_true rfl) dX0_init_122 rfl (fun o40748 h40749 n40751 a40752 e40750 => ?_)
  have k40753 := hu_fr0 e40750 n40751
  have g40754 := hu_at e40750
  clear e40750
  have ne40755 : a ≠ o40748 := hn_ne g40724 n40751
  have ne40756 : (dE 0) ≠ o40748 := hn_ne g40725 n40751
  have ne40757 : o40001 ≠ o40748 := hn_ne g40726 n40751
  have ne40758 : o40012 ≠ o40748 := hn_ne g40727 n40751
  have ne40759 : o40036 ≠ o40748 := hn_ne g40728 n40751
  have ne40760 : o40063 ≠ o40748 := hn_ne g40729 n40751
  have ne40761 : o40093 ≠ o40748 := hn_ne g40730 n40751
  have ne40762 : o40146 ≠ o40748 := hn_ne g40731 n40751
  have ne40763 : l0 ≠ o40748 := hn_ne g40732 n40751
  have ne40764 : l1 ≠ o40748 := hn_ne g40733 n40751
  have ne40765 : l2 ≠ o40748 := hn_ne g40734 n40751
  have ne40766 : l3 ≠ o40748 := hn_ne g40735 n40751
  have ne40767 : d0 ≠ o40748 := hn_ne g40736 n40751
  have ne40768 : d1 ≠ o40748 := hn_ne g40737 n40751
  have ne40769 : d2 ≠ o40748 := hn_ne g40738 n40751
  have ne40770 : o40251 ≠ o40748 := hn_ne g40739 n40751
  have ne40771 : o40307 ≠ o40748 := hn_ne g40740 n40751
  have ne40772 : o40386 ≠ o40748 := hn_ne g40741 n40751
  have ne40773 : o40386x0 ≠ o40748 := hn_ne g40742 n40751
  have ne40774 : o40386x1 ≠ o40748 := hn_ne g40743 n40751
  have ne40775 : o40506 ≠ o40748 := hn_ne g40744 n40751
  have ne40776 : o40506x0 ≠ o40748 := hn_ne g40745 n40751
  have ne40777 : o40622 ≠ o40748 := hn_ne g40746 n40751
  have ne40778 : o40622x0 ≠ o40748 := hn_ne g40747 n40751
  have g40779 := k40753 _ _ List.not_mem_nil g40724
  have g40780 := k40753 _ _ List.not_mem_nil g40725
  have g40781 := k40753 _ _ List.not_mem_nil g40726
  have g40782 := k40753 _ _ List.not_mem_nil g40727
  have g40783 := k40753 _ _ List.not_mem_nil g40728
  have g40784 := k40753 _ _ List.not_mem_nil g40729
  have g40785 := k40753 _ _ List.not_mem_nil g40730
  have g40786 := k40753 _ _ List.not_mem_nil g40731
  have g40787 := k40753 _ _ List.not_mem_nil g40732
  have g40788 := k40753 _ _ List.not_mem_nil g40733
  have g40789 := k40753 _ _ List.not_mem_nil g40734
  have g40790 := k40753 _ _ List.not_mem_nil g40735
  have g40791 := k40753 _ _ List.not_mem_nil g40736
  have g40792 := k40753 _ _ List.not_mem_nil g40737
  have g40793 := k40753 _ _ List.not_mem_nil g40738
  have g40794 := k40753 _ _ List.not_mem_nil g40739
  have g40795 := k40753 _ _ List.not_mem_nil g40740
  have g40796 := k40753 _ _ List.not_mem_nil g40741
  have g40797 := k40753 _ _ List.not_mem_nil g40742
  have g40798 := k40753 _ _ List.not_mem_nil g40743
  have g40799 := k40753 _ _ List.not_mem_nil g40744
  have g40800 := k40753 _ _ List.not_mem_nil g40745
  have g40801 := k40753 _ _ List.not_mem_nil g40746
  have g40802 := k40753 _ _ List.not_mem_nil g40747
  refine ga_dup 126 C.c rfl dX0_init_125 rfl ?_
  refine ga_aload_n 127 C.c 0 rfl rfl dX0_init_126 rfl ?_
  refine hh_callIN 130 C (as := [.ref a]) (met_X5_init (eL E) D kk dE A _ o40748 a g40754) q521 q522 q101 q523 rfl cd_X5_init rfl (Nat.le_of_ble_eq_true rfl) (Nat.le_of_ble_eq_true rfl) (Nat.le_of_ble_eq_true rfl) (Nat.le_of_ble_eq_true rfl) (Nat.le_of_ble_eq_true rfl) dX0_init_127 rfl (fun v40804 h40803 p40805 => ?_)
  obtain ⟨rfl, o40748x0, yo40748x0, gao40748, go40748x0, kao40748⟩ := p40805
  have ne40806 : a ≠ o40748x0 := hn_ne g40779 yo40748x0
  have ne40807 : (dE 0) ≠ o40748x0 := hn_ne g40780 yo40748x0
  have ne40808 : o40001 ≠ o40748x0 := hn_ne g40781 yo40748x0
  have ne40809 : o40012 ≠ o40748x0 := hn_ne g40782 yo40748x0
  have ne40810 : o40036 ≠ o40748x0 := hn_ne g40783 yo40748x0
  have ne40811 : o40063 ≠ o40748x0 := hn_ne g40784 yo40748x0
  have ne40812 : o40093 ≠ o40748x0 := hn_ne g40785 yo40748x0
  have ne40813 : o40146 ≠ o40748x0 := hn_ne g40786 yo40748x0
  have ne40814 : l0 ≠ o40748x0 := hn_ne g40787 yo40748x0
  have ne40815 : l1 ≠ o40748x0 := hn_ne g40788 yo40748x0
  have ne40816 : l2 ≠ o40748x0 := hn_ne g40789 yo40748x0
  have ne40817 : l3 ≠ o40748x0 := hn_ne g40790 yo40748x0
  have ne40818 : d0 ≠ o40748x0 := hn_ne g40791 yo40748x0
  have ne40819 : d1 ≠ o40748x0 := hn_ne g40792 yo40748x0
  have ne40820 : d2 ≠ o40748x0 := hn_ne g40793 yo40748x0
  have ne40821 : o40251 ≠ o40748x0 := hn_ne g40794 yo40748x0
  have ne40822 : o40307 ≠ o40748x0 := hn_ne g40795 yo40748x0
  have ne40823 : o40386 ≠ o40748x0 := hn_ne g40796 yo40748x0
  have ne40824 : o40386x0 ≠ o40748x0 := hn_ne g40797 yo40748x0
  have ne40825 : o40386x1 ≠ o40748x0 := hn_ne g40798 yo40748x0
  have ne40826 : o40506 ≠ o40748x0 := hn_ne g40799 yo40748x0
  have ne40827 : o40506x0 ≠ o40748x0 := hn_ne g40800 yo40748x0
  have ne40828 : o40622 ≠ o40748x0 := hn_ne g40801 yo40748x0
  have ne40829 : o40622x0 ≠ o40748x0 := hn_ne g40802 yo40748x0
  have ne40830 : o40748 ≠ o40748x0 := hn_ne g40754 yo40748x0
  have g40831 := kao40748 _ _ (nm1 ne40755) g40779
  have g40832 := kao40748 _ _ (nm1 ne40756) g40780
  have g40833 := kao40748 _ _ (nm1 ne40757) g40781
  have g40834 := kao40748 _ _ (nm1 ne40758) g40782
  have g40835 := kao40748 _ _ (nm1 ne40759) g40783
  have g40836 := kao40748 _ _ (nm1 ne40760) g40784
  have g40837 := kao40748 _ _ (nm1 ne40761) g40785
  have g40838 := kao40748 _ _ (nm1 ne40762) g40786
  have g40839 := kao40748 _ _ (nm1 ne40763) g40787
  have g40840 := kao40748 _ _ (nm1 ne40764) g40788
  have g40841 := kao40748 _ _ (nm1 ne40765) g40789
  have g40842 := kao40748 _ _ (nm1 ne40766) g40790
  have g40843 := kao40748 _ _ (nm1 ne40767) g40791
  have g40844 := kao40748 _ _ (nm1 ne40768) g40792
  have g40845 := kao40748 _ _ (nm1 ne40769) g40793
  have g40846 := kao40748 _ _ (nm1 ne40770) g40794
  have g40847 := kao40748 _ _ (nm1 ne40771) g40795
  have g40848 := kao40748 _ _ (nm1 ne40772) g40796
  have g40849 := kao40748 _ _ (nm1 ne40773) g40797
  have g40850 := kao40748 _ _ (nm1 ne40774) g40798
  have g40851 := kao40748 _ _ (nm1 ne40775) g40799
  have g40852 := kao40748 _ _ (nm1 ne40776) g40800
  have g40853 := kao40748 _ _ (nm1 ne40777) g40801
  have g40854 := kao40748 _ _ (nm1 ne40778) g40802
  refine hh_putF 133 11 C hin (ref := "QuotedRiver") (fs2 := [.ref o40001, .ref o40146, .ref o40251, .ref o40307, .int 0, .int 0, .int (-1), .ref o40386, .ref o40506, .ref o40622, .int 0, .ref o40748, .int 0, .null, .null]) tyX0_ok nmX0 in_X0 g40831 rfl (by decide) q567 (fun _ h9 => h9) rfl rfl (tyX0_ok 11 (by decide)) rfl rfl (Nat.le_of_ble_eq_true rfl) rfl dX0_init_130 rfl (fun h40855 e40856 => ?_)
  have k40857 := hu_fr e40856
  have g40858 := hu_at e40856
  clear e40856
  have g40859 := k40857 _ _ (nm1 (Ne.symm nad)) g40832
  have g40860 := k40857 _ _ (nm1 (Ne.symm ne40008)) g40833
  have g40861 := k40857 _ _ (nm1 (Ne.symm ne40019)) g40834
  have g40862 := k40857 _ _ (nm1 (Ne.symm ne40043)) g40835
  have g40863 := k40857 _ _ (nm1 (Ne.symm ne40070)) g40836
  have g40864 := k40857 _ _ (nm1 (Ne.symm ne40100)) g40837
  have g40865 := k40857 _ _ (nm1 (Ne.symm ne40153)) g40838
  have g40866 := k40857 _ _ (nm1 (Ne.symm ne40170)) g40839
  have g40867 := k40857 _ _ (nm1 (Ne.symm ne40178)) g40840
  have g40868 := k40857 _ _ (nm1 (Ne.symm ne40186)) g40841
  have g40869 := k40857 _ _ (nm1 (Ne.symm ne40194)) g40842
  have g40870 := k40857 _ _ (nm1 (Ne.symm ne40202)) g40843
  have g40871 := k40857 _ _ (nm1 (Ne.symm ne40210)) g40844
  have g40872 := k40857 _ _ (nm1 (Ne.symm ne40218)) g40845
  have g40873 := k40857 _ _ (nm1 (Ne.symm ne40258)) g40846
  have g40874 := k40857 _ _ (nm1 (Ne.symm ne40314)) g40847
  have g40875 := k40857 _ _ (nm1 (Ne.symm ne40393)) g40848
  have g40876 := k40857 _ _ (nm1 (Ne.symm ne40430)) g40849
  have g40877 := k40857 _ _ (nm1 (Ne.symm ne40448)) g40850
  have g40878 := k40857 _ _ (nm1 (Ne.symm ne40513)) g40851
  have g40879 := k40857 _ _ (nm1 (Ne.symm ne40556)) g40852
  have g40880 := k40857 _ _ (nm1 (Ne.symm ne40629)) g40853
  have g40881 := k40857 _ _ (nm1 (Ne.symm ne40676)) g40854
  have g40882 := k40857 _ _ (nm1 (Ne.symm ne40755)) gao40748
  have g40883 := k40857 _ _ (nm1 (Ne.symm ne40806)) go40748x0
  refine ga_aload_n 134 C.c 0 rfl rfl dX0_init_133 rfl ?_
  refine ga_sipush 137 C.c (v := 2000) (by decide) dX0_init_134 rfl ?_
  refine hh_newa 139 1 C (atype := .long) (a0 := (2000, .inr (.inl (fun _ => 0)))) q233 rfl rfl (fun _ => rfl) (by decide) (by decide) (by decide) (Nat.le_of_ble_eq_true rfl) (Nat.le_of_ble_eq_true rfl) dX0_init_137 rfl (fun o40884 h40885 n40887 a40888 e40886 => ?_)
  have k40889 := hu_fr0 e40886 n40887
  have g40890 := hu_at e40886
  clear e40886
  have ne40891 : a ≠ o40884 := hn_ne g40858 n40887
  have ne40892 : (dE 0) ≠ o40884 := hn_ne g40859 n40887
  have ne40893 : o40001 ≠ o40884 := hn_ne g40860 n40887
  have ne40894 : o40012 ≠ o40884 := hn_ne g40861 n40887
  have ne40895 : o40036 ≠ o40884 := hn_ne g40862 n40887
  have ne40896 : o40063 ≠ o40884 := hn_ne g40863 n40887
  have ne40897 : o40093 ≠ o40884 := hn_ne g40864 n40887
  have ne40898 : o40146 ≠ o40884 := hn_ne g40865 n40887
  have ne40899 : l0 ≠ o40884 := hn_ne g40866 n40887
  have ne40900 : l1 ≠ o40884 := hn_ne g40867 n40887
  have ne40901 : l2 ≠ o40884 := hn_ne g40868 n40887
  have ne40902 : l3 ≠ o40884 := hn_ne g40869 n40887
  have ne40903 : d0 ≠ o40884 := hn_ne g40870 n40887
  have ne40904 : d1 ≠ o40884 := hn_ne g40871 n40887
  have ne40905 : d2 ≠ o40884 := hn_ne g40872 n40887
  have ne40906 : o40251 ≠ o40884 := hn_ne g40873 n40887
  have ne40907 : o40307 ≠ o40884 := hn_ne g40874 n40887
  have ne40908 : o40386 ≠ o40884 := hn_ne g40875 n40887
  have ne40909 : o40386x0 ≠ o40884 := hn_ne g40876 n40887
  have ne40910 : o40386x1 ≠ o40884 := hn_ne g40877 n40887
  have ne40911 : o40506 ≠ o40884 := hn_ne g40878 n40887
  have ne40912 : o40506x0 ≠ o40884 := hn_ne g40879 n40887
  have ne40913 : o40622 ≠ o40884 := hn_ne g40880 n40887
  have ne40914 : o40622x0 ≠ o40884 := hn_ne g40881 n40887
  have ne40915 : o40748 ≠ o40884 := hn_ne g40882 n40887
  have ne40916 : o40748x0 ≠ o40884 := hn_ne g40883 n40887
  have g40917 := k40889 _ _ List.not_mem_nil g40858
  have g40918 := k40889 _ _ List.not_mem_nil g40859
  have g40919 := k40889 _ _ List.not_mem_nil g40860
  have g40920 := k40889 _ _ List.not_mem_nil g40861
  have g40921 := k40889 _ _ List.not_mem_nil g40862
  have g40922 := k40889 _ _ List.not_mem_nil g40863
  have g40923 := k40889 _ _ List.not_mem_nil g40864
  have g40924 := k40889 _ _ List.not_mem_nil g40865
  have g40925 := k40889 _ _ List.not_mem_nil g40866
  have g40926 := k40889 _ _ List.not_mem_nil g40867
  have g40927 := k40889 _ _ List.not_mem_nil g40868
  have g40928 := k40889 _ _ List.not_mem_nil g40869
  have g40929 := k40889 _ _ List.not_mem_nil g40870
  have g40930 := k40889 _ _ List.not_mem_nil g40871
  have g40931 := k40889 _ _ List.not_mem_nil g40872
  have g40932 := k40889 _ _ List.not_mem_nil g40873
  have g40933 := k40889 _ _ List.not_mem_nil g40874
  have g40934 := k40889 _ _ List.not_mem_nil g40875
  have g40935 := k40889 _ _ List.not_mem_nil g40876
  have g40936 := k40889 _ _ List.not_mem_nil g40877
  have g40937 := k40889 _ _ List.not_mem_nil g40878
  have g40938 := k40889 _ _ List.not_mem_nil g40879
  have g40939 := k40889 _ _ List.not_mem_nil g40880
  have g40940 := k40889 _ _ List.not_mem_nil g40881
  have g40941 := k40889 _ _ List.not_mem_nil g40882
  have g40942 := k40889 _ _ List.not_mem_nil g40883
  refine hh_putF 142 13 C hin (ref := "QuotedRiver") (fs2 := [.ref o40001, .ref o40146, .ref o40251, .ref o40307, .int 0, .int 0, .int (-1), .ref o40386, .ref o40506, .ref o40622, .int 0, .ref o40748, .int 0, .ref o40884, .null]) tyX0_ok nmX0 in_X0 g40917 rfl (by decide) q569 (fun _ h9 => h9) rfl rfl (tyX0_ok 13 (by decide)) rfl rfl (Nat.le_of_ble_eq_true rfl) rfl dX0_init_139 rfl (fun h40943 e40944 => ?_)
  have k40945 := hu_fr e40944
  have g40946 := hu_at e40944
  clear e40944
  have g40947 := k40945 _ _ (nm1 (Ne.symm nad)) g40918
  have g40948 := k40945 _ _ (nm1 (Ne.symm ne40008)) g40919
  have g40949 := k40945 _ _ (nm1 (Ne.symm ne40019)) g40920
  have g40950 := k40945 _ _ (nm1 (Ne.symm ne40043)) g40921
  have g40951 := k40945 _ _ (nm1 (Ne.symm ne40070)) g40922
  have g40952 := k40945 _ _ (nm1 (Ne.symm ne40100)) g40923
  have g40953 := k40945 _ _ (nm1 (Ne.symm ne40153)) g40924
  have g40954 := k40945 _ _ (nm1 (Ne.symm ne40170)) g40925
  have g40955 := k40945 _ _ (nm1 (Ne.symm ne40178)) g40926
  have g40956 := k40945 _ _ (nm1 (Ne.symm ne40186)) g40927
  have g40957 := k40945 _ _ (nm1 (Ne.symm ne40194)) g40928
  have g40958 := k40945 _ _ (nm1 (Ne.symm ne40202)) g40929
  have g40959 := k40945 _ _ (nm1 (Ne.symm ne40210)) g40930
  have g40960 := k40945 _ _ (nm1 (Ne.symm ne40218)) g40931
  have g40961 := k40945 _ _ (nm1 (Ne.symm ne40258)) g40932
  have g40962 := k40945 _ _ (nm1 (Ne.symm ne40314)) g40933
  have g40963 := k40945 _ _ (nm1 (Ne.symm ne40393)) g40934
  have g40964 := k40945 _ _ (nm1 (Ne.symm ne40430)) g40935
  have g40965 := k40945 _ _ (nm1 (Ne.symm ne40448)) g40936
  have g40966 := k40945 _ _ (nm1 (Ne.symm ne40513)) g40937
  have g40967 := k40945 _ _ (nm1 (Ne.symm ne40556)) g40938
  have g40968 := k40945 _ _ (nm1 (Ne.symm ne40629)) g40939
  have g40969 := k40945 _ _ (nm1 (Ne.symm ne40676)) g40940
  have g40970 := k40945 _ _ (nm1 (Ne.symm ne40755)) g40941
  have g40971 := k40945 _ _ (nm1 (Ne.symm ne40806)) g40942
  have g40972 := k40945 _ _ (nm1 (Ne.symm ne40891)) g40890
  refine ga_aload_n 143 C.c 0 rfl rfl dX0_init_142 rfl ?_
  refine ga_sipush 146 C.c (v := 2000) (by decide) dX0_init_143 rfl ?_
  refine hh_newa 148 1 C (atype := .long) (a0 := (2000, .inr (.inl (fun _ => 0)))) q233 rfl rfl (fun _ => rfl) (by decide) (by decide) (by decide) (Nat.le_of_ble_eq_true rfl) (Nat.le_of_ble_eq_true rfl) dX0_init_146 rfl (fun o40973 h40974 n40976 a40977 e40975 => ?_)
  have k40978 := hu_fr0 e40975 n40976
  have g40979 := hu_at e40975
  clear e40975
  have ne40980 : a ≠ o40973 := hn_ne g40946 n40976
  have ne40981 : (dE 0) ≠ o40973 := hn_ne g40947 n40976
  have ne40982 : o40001 ≠ o40973 := hn_ne g40948 n40976
  have ne40983 : o40012 ≠ o40973 := hn_ne g40949 n40976
  have ne40984 : o40036 ≠ o40973 := hn_ne g40950 n40976
  have ne40985 : o40063 ≠ o40973 := hn_ne g40951 n40976
  have ne40986 : o40093 ≠ o40973 := hn_ne g40952 n40976
  have ne40987 : o40146 ≠ o40973 := hn_ne g40953 n40976
  have ne40988 : l0 ≠ o40973 := hn_ne g40954 n40976
  have ne40989 : l1 ≠ o40973 := hn_ne g40955 n40976
  have ne40990 : l2 ≠ o40973 := hn_ne g40956 n40976
  have ne40991 : l3 ≠ o40973 := hn_ne g40957 n40976
  have ne40992 : d0 ≠ o40973 := hn_ne g40958 n40976
  have ne40993 : d1 ≠ o40973 := hn_ne g40959 n40976
  have ne40994 : d2 ≠ o40973 := hn_ne g40960 n40976
  have ne40995 : o40251 ≠ o40973 := hn_ne g40961 n40976
  have ne40996 : o40307 ≠ o40973 := hn_ne g40962 n40976
  have ne40997 : o40386 ≠ o40973 := hn_ne g40963 n40976
  have ne40998 : o40386x0 ≠ o40973 := hn_ne g40964 n40976
  have ne40999 : o40386x1 ≠ o40973 := hn_ne g40965 n40976
  have ne41000 : o40506 ≠ o40973 := hn_ne g40966 n40976
  have ne41001 : o40506x0 ≠ o40973 := hn_ne g40967 n40976
  have ne41002 : o40622 ≠ o40973 := hn_ne g40968 n40976
  have ne41003 : o40622x0 ≠ o40973 := hn_ne g40969 n40976
  have ne41004 : o40748 ≠ o40973 := hn_ne g40970 n40976
  have ne41005 : o40748x0 ≠ o40973 := hn_ne g40971 n40976
  have ne41006 : o40884 ≠ o40973 := hn_ne g40972 n40976
  have g41007 := k40978 _ _ List.not_mem_nil g40946
  have g41008 := k40978 _ _ List.not_mem_nil g40947
  have g41009 := k40978 _ _ List.not_mem_nil g40948
  have g41010 := k40978 _ _ List.not_mem_nil g40949
  have g41011 := k40978 _ _ List.not_mem_nil g40950
  have g41012 := k40978 _ _ List.not_mem_nil g40951
  have g41013 := k40978 _ _ List.not_mem_nil g40952
  have g41014 := k40978 _ _ List.not_mem_nil g40953
  have g41015 := k40978 _ _ List.not_mem_nil g40954
  have g41016 := k40978 _ _ List.not_mem_nil g40955
  have g41017 := k40978 _ _ List.not_mem_nil g40956
  have g41018 := k40978 _ _ List.not_mem_nil g40957
  have g41019 := k40978 _ _ List.not_mem_nil g40958
  have g41020 := k40978 _ _ List.not_mem_nil g40959
  have g41021 := k40978 _ _ List.not_mem_nil g40960
  have g41022 := k40978 _ _ List.not_mem_nil g40961
  have g41023 := k40978 _ _ List.not_mem_nil g40962
  have g41024 := k40978 _ _ List.not_mem_nil g40963
  have g41025 := k40978 _ _ List.not_mem_nil g40964
  have g41026 := k40978 _ _ List.not_mem_nil g40965
  have g41027 := k40978 _ _ List.not_mem_nil g40966
  have g41028 := k40978 _ _ List.not_mem_nil g40967
  have g41029 := k40978 _ _ List.not_mem_nil g40968
  have g41030 := k40978 _ _ List.not_mem_nil g40969
  have g41031 := k40978 _ _ List.not_mem_nil g40970
  have g41032 := k40978 _ _ List.not_mem_nil g40971
  have g41033 := k40978 _ _ List.not_mem_nil g40972
  refine hh_putF 151 14 C hin (ref := "QuotedRiver") (fs2 := [.ref o40001, .ref o40146, .ref o40251, .ref o40307, .int 0, .int 0, .int (-1), .ref o40386, .ref o40506, .ref o40622, .int 0, .ref o40748, .int 0, .ref o40884, .ref o40973]) tyX0_ok nmX0 in_X0 g41007 rfl (by decide) q570 (fun _ h9 => h9) rfl rfl (tyX0_ok 14 (by decide)) rfl rfl (Nat.le_of_ble_eq_true rfl) rfl dX0_init_148 rfl (fun h41034 e41035 => ?_)
  have k41036 := hu_fr e41035
  have g41037 := hu_at e41035
  clear e41035
  have g41038 := k41036 _ _ (nm1 (Ne.symm nad)) g41008
  have g41039 := k41036 _ _ (nm1 (Ne.symm ne40008)) g41009
  have g41040 := k41036 _ _ (nm1 (Ne.symm ne40019)) g41010
  have g41041 := k41036 _ _ (nm1 (Ne.symm ne40043)) g41011
  have g41042 := k41036 _ _ (nm1 (Ne.symm ne40070)) g41012
  have g41043 := k41036 _ _ (nm1 (Ne.symm ne40100)) g41013
  have g41044 := k41036 _ _ (nm1 (Ne.symm ne40153)) g41014
  have g41045 := k41036 _ _ (nm1 (Ne.symm ne40170)) g41015
  have g41046 := k41036 _ _ (nm1 (Ne.symm ne40178)) g41016
  have g41047 := k41036 _ _ (nm1 (Ne.symm ne40186)) g41017
  have g41048 := k41036 _ _ (nm1 (Ne.symm ne40194)) g41018
  have g41049 := k41036 _ _ (nm1 (Ne.symm ne40202)) g41019
  have g41050 := k41036 _ _ (nm1 (Ne.symm ne40210)) g41020
  have g41051 := k41036 _ _ (nm1 (Ne.symm ne40218)) g41021
  have g41052 := k41036 _ _ (nm1 (Ne.symm ne40258)) g41022
  have g41053 := k41036 _ _ (nm1 (Ne.symm ne40314)) g41023
  have g41054 := k41036 _ _ (nm1 (Ne.symm ne40393)) g41024
  have g41055 := k41036 _ _ (nm1 (Ne.symm ne40430)) g41025
  have g41056 := k41036 _ _ (nm1 (Ne.symm ne40448)) g41026
  have g41057 := k41036 _ _ (nm1 (Ne.symm ne40513)) g41027
  have g41058 := k41036 _ _ (nm1 (Ne.symm ne40556)) g41028
  have g41059 := k41036 _ _ (nm1 (Ne.symm ne40629)) g41029
  have g41060 := k41036 _ _ (nm1 (Ne.symm ne40676)) g41030
  have g41061 := k41036 _ _ (nm1 (Ne.symm ne40755)) g41031
  have g41062 := k41036 _ _ (nm1 (Ne.symm ne40806)) g41032
  have g41063 := k41036 _ _ (nm1 (Ne.symm ne40891)) g41033
  have g41064 := k41036 _ _ (nm1 (Ne.symm ne40980)) g40979
  obtain ⟨gg, egg⟩ : ∃ gg, gg = gI [a, o40307, o40386, o40386x0, o40386x1, o40506, o40506x0, o40622, o40622x0, o40748, o40748x0, o40884, o40973, o40001, o40251, o40146] := ⟨_, rfl⟩
  have key : ∀ i j, i < j → j < 13 → gg i ≠ gg j := by
    rw [egg]
    intro i j hij hj
    rcases (show j = 1 ∨ j = 2 ∨ j = 3 ∨ j = 4 ∨ j = 5 ∨ j = 6 ∨ j = 7 ∨ j = 8 ∨ j = 9 ∨ j = 10 ∨ j = 11 ∨ j = 12 by omega) with rfl | rfl | rfl | rfl | rfl | rfl | rfl | rfl | rfl | rfl | rfl | rfl
    · rcases (show i = 0 by omega) with rfl
      exact ne40314
    · rcases (show i = 0 ∨ i = 1 by omega) with rfl | rfl
      · exact ne40393
      · exact ne40409
    · rcases (show i = 0 ∨ i = 1 ∨ i = 2 by omega) with rfl | rfl | rfl
      · exact ne40430
      · exact ne40446
      · exact ne40447
    · rcases (show i = 0 ∨ i = 1 ∨ i = 2 ∨ i = 3 by omega) with rfl | rfl | rfl | rfl
      · exact ne40448
      · exact ne40464
      · exact ne40465
      · exact zo40386
    · rcases (show i = 0 ∨ i = 1 ∨ i = 2 ∨ i = 3 ∨ i = 4 by omega) with rfl | rfl | rfl | rfl | rfl
      · exact ne40513
      · exact ne40529
      · exact ne40530
      · exact ne40531
      · exact ne40532
    · rcases (show i = 0 ∨ i = 1 ∨ i = 2 ∨ i = 3 ∨ i = 4 ∨ i = 5 by omega) with rfl | rfl | rfl | rfl | rfl | rfl
      · exact ne40556
      · exact ne40572
      · exact ne40573
      · exact ne40574
      · exact ne40575
      · exact ne40576
    · rcases (show i = 0 ∨ i = 1 ∨ i = 2 ∨ i = 3 ∨ i = 4 ∨ i = 5 ∨ i = 6 by omega) with rfl | rfl | rfl | rfl | rfl | rfl | rfl
      · exact ne40629
      · exact ne40645
      · exact ne40646
      · exact ne40647
      · exact ne40648
      · exact ne40649
      · exact ne40650
    · rcases (show i = 0 ∨ i = 1 ∨ i = 2 ∨ i = 3 ∨ i = 4 ∨ i = 5 ∨ i = 6 ∨ i = 7 by omega) with rfl | rfl | rfl | rfl | rfl | rfl | rfl | rfl
      · exact ne40676
      · exact ne40692
      · exact ne40693
      · exact ne40694
      · exact ne40695
      · exact ne40696
      · exact ne40697
      · exact ne40698
    · rcases (show i = 0 ∨ i = 1 ∨ i = 2 ∨ i = 3 ∨ i = 4 ∨ i = 5 ∨ i = 6 ∨ i = 7 ∨ i = 8 by omega) with rfl | rfl | rfl | rfl | rfl | rfl | rfl | rfl | rfl
      · exact ne40755
      · exact ne40771
      · exact ne40772
      · exact ne40773
      · exact ne40774
      · exact ne40775
      · exact ne40776
      · exact ne40777
      · exact ne40778
    · rcases (show i = 0 ∨ i = 1 ∨ i = 2 ∨ i = 3 ∨ i = 4 ∨ i = 5 ∨ i = 6 ∨ i = 7 ∨ i = 8 ∨ i = 9 by omega) with rfl | rfl | rfl | rfl | rfl | rfl | rfl | rfl | rfl | rfl
      · exact ne40806
      · exact ne40822
      · exact ne40823
      · exact ne40824
      · exact ne40825
      · exact ne40826
      · exact ne40827
      · exact ne40828
      · exact ne40829
      · exact ne40830
    · rcases (show i = 0 ∨ i = 1 ∨ i = 2 ∨ i = 3 ∨ i = 4 ∨ i = 5 ∨ i = 6 ∨ i = 7 ∨ i = 8 ∨ i = 9 ∨ i = 10 by omega) with rfl | rfl | rfl | rfl | rfl | rfl | rfl | rfl | rfl | rfl | rfl
      · exact ne40891
      · exact ne40907
      · exact ne40908
      · exact ne40909
      · exact ne40910
      · exact ne40911
      · exact ne40912
      · exact ne40913
      · exact ne40914
      · exact ne40915
      · exact ne40916
    · rcases (show i = 0 ∨ i = 1 ∨ i = 2 ∨ i = 3 ∨ i = 4 ∨ i = 5 ∨ i = 6 ∨ i = 7 ∨ i = 8 ∨ i = 9 ∨ i = 10 ∨ i = 11 by omega) with rfl | rfl | rfl | rfl | rfl | rfl | rfl | rfl | rfl | rfl | rfl | rfl
      · exact ne40980
      · exact ne40996
      · exact ne40997
      · exact ne40998
      · exact ne40999
      · exact ne41000
      · exact ne41001
      · exact ne41002
      · exact ne41003
      · exact ne41004
      · exact ne41005
      · exact ne41006
  have gi : ∀ i j, i < 13 → j < 13 → gg i = gg j → i = j := fun i j hi hj e => by
    rcases Nat.lt_trichotomy i j with q | q | q
    · exact absurd e (key i j q hj)
    · exact q
    · exact absurd e.symm (key j i q hi)
  have hf9 : ∀ (k : Nat) (q : Nat × va_E), (xw_f gg kk ((fun k => if k = 2 then -1 else 0, fun _ _ => 0, fun _ _ => 0) : MS))[k]? = some q → h41034 q.1 = some q.2 := by
    rw [egg]
    intro k q hk
    have hl := (xw_f_g hk).1
    rcases (show k = 0 ∨ k = 1 ∨ k = 2 ∨ k = 3 ∨ k = 4 ∨ k = 5 ∨ k = 6 ∨ k = 7 ∨ k = 8 ∨ k = 9 ∨ k = 10 ∨ k = 11 ∨ k = 12 by omega) with rfl | rfl | rfl | rfl | rfl | rfl | rfl | rfl | rfl | rfl | rfl | rfl | rfl
    · cases hk; exact g41037
    · cases hk; exact g41053
    · cases hk; exact g41054
    · cases hk; exact g41055
    · cases hk; exact g41056
    · cases hk; exact g41057
    · cases hk; exact g41058
    · cases hk; exact g41059
    · cases hk; exact g41060
    · cases hk; exact g41061
    · cases hk; exact g41062
    · cases hk; exact g41063
    · cases hk; exact g41064
  have HX := xf_first (kk := kk) (dE := dE) (z := ((fun k => if k = 2 then -1 else 0, fun _ _ => 0, fun _ _ => 0) : MS)) hp0 hp3 hf9 gi ⟨fE, g41038⟩ (by rw [egg]; exact g41044) g41045 g41046 g41047 g41048 g41049 g41050 g41051
    p01 p02 p03 p12 p13 p23 r01 r02 r12 (Ne.symm ne40203) (Ne.symm ne40211) (Ne.symm ne40219) (by rw [egg]; exact g41039) g41040 g41041 g41042 g41043 ne40046 ne40073 ne40103 ne40074 ne40104 ne40105 (by rw [egg]; exact g41052)
  obtain ⟨G, S, HX⟩ := HX
  exact hw_vret C hr hlk hq (Nat.le_of_ble_eq_true rfl) (Nat.le_of_ble_eq_true rfl) ⟨rfl, gg, ((fun k => if k = 2 then -1 else 0, fun _ _ => 0, fun _ _ => 0) : MS), G, S, by rw [egg]; rfl, rfl, rfl, rfl, fun _ => rfl, HX⟩ dX0_init_151
