set_option maxRecDepth 100000
/-! java.util.ArrayList, what only reads: size, isEmpty, elementData, get -/
section LS
variable {E : gE} {cc : ByteArray} {nL fr lc : Nat} {RX : String} {I : Heap → List Loc → Prop} {ka na pc : Nat} {lo : List (Option Value)} {st : List Value} {A : Nat → Prop} {D : va_G} {tys : List (ClassId × FieldType)}
/-- getfield of an object that the picture holds -/
theorem ga_get1 (pc2 k : Nat) (C : ga_C E cc) (hts : ∀ w ∈ lw_all, w.before (eA E) (eS E) = true) {own ref Cn : String} {T : u_T} {N ci idx a : Nat} {fs : List Value} {v : Value} (how : (eS E).vm.findClass own = some (eM E).cls) (hK : va_K D vwCl tys (eS E)) (hP : ∀ H locs, I H locs → va_P D vwCl [(a, .inr (ci, fs))] H) (hin : ∀ w ∈ u_ws Cn T N, w ∈ lw_all) (hcl : vwCl[ci]? = some (Cn, T, N)) (hk : k < N) (hl : Cond.fieldLink own idx ref (T k).2.1 (T k).2.2.1 ∈ lw_all) (hs : ∀ x, (eS E).fieldFound? (T k).1 (T k).2.1 (T k).2.2.1 = some x → (eS E).fieldFound? ref (T k).2.1 (T k).2.2.1 = some x) (hv : fs[k]? = some v) (hd : decode cc pc = .ok (.getfield idx, 3)) (e : pc + 3 = pc2)
    (k1 : ga_W E nL I ka na pc2 lo (v :: st)) : ga_W E nL I ka na pc lo (.ref a :: st) := by
  subst e
  exact fun H locs ls hI hL => va_get C.1 C.2 hts hin how hK (hP H locs hI) 0 rfl hcl k hk (hts _ hl) hs hv hd (k1 H locs ls hI hL)
theorem ga_get1N (pc2 k : Nat) (C : ga_C E cc) (hts : ∀ w ∈ lw_all, w.before (eA E) (eS E) = true) {own ref Cn host : String} {T : u_T} {N ci idx a : Nat} {fs : List Value} {v : Value} (how : (eS E).vm.findClass own = some (eM E).cls) (hK : va_K D vwCl tys (eS E)) (hP : ∀ H locs, I H locs → va_P D vwCl [(a, .inr (ci, fs))] H) (hin : ∀ w ∈ u_ws Cn T N, w ∈ lw_all) (hcl : vwCl[ci]? = some (Cn, T, N)) (hk : k < N) (hl : (Cond.fieldLinkNest own idx ref (T k).2.1 (T k).2.2.1 host).before (eA E) (eS E) = true) (hs : ∀ x, (eS E).fieldFound? (T k).1 (T k).2.1 (T k).2.2.1 = some x → (eS E).fieldFound? ref (T k).2.1 (T k).2.2.1 = some x) (hv : fs[k]? = some v) (hd : decode cc pc = .ok (.getfield idx, 3)) (e : pc + 3 = pc2)
    (k1 : ga_W E nL I ka na pc2 lo (v :: st)) : ga_W E nL I ka na pc lo (.ref a :: st) := by
  subst e
  exact fun H locs ls hI hL => va_getN C.1 C.2 hts hin how hK (hP H locs hI) 0 rfl hcl k hk hl hs hv hd (k1 H locs ls hI hL)
theorem ga_aldq1 (pc2 t0 : Nat) (C : ga_C E cc) (hK : va_K D vwCl tys (eS E)) {a n : Nat} {cA : ClassId} {Cn : String} {f : Nat → Option Nat} (hP : ∀ H locs, I H locs → va_P D vwCl [(a, .inl (cA, n, .inr (.inr (.inr (.inr f)))))] H) (ht : tys[t0]? = some (cA, .object Cn)) {i : Int32} {v : Value} (hi : vp_in i n) (hv : va_rf (f i.toNatClampNeg) = v) (hd : decode cc pc = .ok (.aaload, 1)) (e : pc + 1 = pc2)
    (k1 : ga_W E nL I ka na pc2 lo (v :: st)) : ga_W E nL I ka na pc lo (.int i :: .ref a :: st) := by
  subst e
  subst hv
  exact fun H locs ls hI hL => va_aldq C.1 C.2 hK (hP H locs hI) 0 t0 rfl ht hi hd (k1 H locs ls hI hL)
/-- a list: its object -/
abbrev ls_o (a : Nat) (m : Int32) (d : Nat) (n : Int32) : Nat × va_E := (a, .inr (13, [.int m, .ref d, .int n]))
abbrev ls_a (d : Nat) (cA : ClassId) (cap : Nat) (f : Nat → Option Nat) : Nat × va_E := (d, .inl (cA, cap, .inr (.inr (.inr (.inr f)))))
theorem cd_J2_size : yJ2_size.cls = "java/util/ArrayList" ∧ yJ2_size.cls ≠ "java/lang/invoke/MethodHandle" ∧ yJ2_size.cls ≠ "java/lang/invoke/VarHandle" ∧ (parseMethodDescriptor yJ2_size.desc).map (fun d => d.parameters.length) = some 0 := by decide +kernel
theorem cd_J2_elementData : yJ2_elementData.cls = "java/util/ArrayList" ∧ yJ2_elementData.cls ≠ "java/lang/invoke/MethodHandle" ∧ yJ2_elementData.cls ≠ "java/lang/invoke/VarHandle" ∧ (parseMethodDescriptor yJ2_elementData.desc).map (fun d => d.parameters.length) = some 1 := by decide +kernel
set_option maxHeartbeats 1000000 in
theorem met_J2_size (l : Launch) (D : va_G) (a d : Nat) (m n : Int32) : Met l yJ2_size (ws_ yJ2_size cJ2_size 1 (some .int)) ({ frames := 0, cells := 0, slots := 0, locals := 0 } : Room) (va_Pc [.ref a] (fun U => va_P D vwCl [ls_o a m d n] U.heap ∧ va_K D vwCl [] U)) (ps_Qc (some (.int n))) 0 0 (fun _ => False) := by
  refine rd_of (RX := RJ2) (lo := [some (.ref a)]) (by decide) rfl (Nat.le_of_ble_eq_true rfl) rfl (fun E C hP hr hlk hq => ?_)
  refine ga_aload_n 1 C.c 0 rfl rfl dJ2_size_0 rfl ?_
  refine ga_get1 4 2 C.c C.ts (own := RJ2) (ref := RJ2) C.ow hP.2 (fun H locs h => by rw [h.1]; exact hP.1) in_J2 rfl (by decide) q371 (fun _ h => h) rfl dJ2_size_1 rfl ?_
  exact ps_iret C hr hlk hq rfl rfl dJ2_size_4
set_option maxHeartbeats 1000000 in
theorem met_J2_isEmpty (l : Launch) (D : va_G) (a d : Nat) (m n : Int32) : Met l yJ2_isEmpty (ws_ yJ2_isEmpty cJ2_isEmpty 1 (some .boolean)) ({ frames := 0, cells := 0, slots := 0, locals := 0 } : Room) (va_Pc [.ref a] (fun U => va_P D vwCl [ls_o a m d n] U.heap ∧ va_K D vwCl [] U)) (ps_Qc (some (.int (if n = 0 then 1 else 0)))) 0 0 (fun _ => False) := by
  refine rd_of (RX := RJ2) (lo := [some (.ref a)]) (by decide) rfl (Nat.le_of_ble_eq_true rfl) rfl (fun E C hP hr hlk hq => ?_)
  refine ga_aload_n 1 C.c 0 rfl rfl dJ2_isEmpty_0 rfl ?_
  refine ga_get1 4 2 C.c C.ts (own := RJ2) (ref := RJ2) C.ow hP.2 (fun H locs h => by rw [h.1]; exact hP.1) in_J2 rfl (by decide) q371 (fun _ h => h) rfl dJ2_isEmpty_1 rfl ?_
  refine ga_if_ne 11 7 C.c dJ2_isEmpty_4 (by decide) rfl (fun c => ?_) (fun c => ?_)
  · refine ga_iconst 12 C.c (v := 0) (by decide) dJ2_isEmpty_11 rfl ?_
    exact ps_iret C hr hlk hq rfl (by rw [if_neg c]; rfl) dJ2_isEmpty_12
  · refine ga_iconst 8 C.c (v := 1) (by decide) dJ2_isEmpty_7 rfl ?_
    refine ga_goto 12 C.c dJ2_isEmpty_8 (by decide) ?_
    exact ps_iret C hr hlk hq rfl (by rw [if_pos c]; rfl) dJ2_isEmpty_12
set_option maxHeartbeats 1000000 in
theorem met_J2_elementData (l : Launch) (D : va_G) (a d cap q : Nat) (cA : ClassId) (f : Nat → Option Nat) (m n i : Int32) (hi : vp_in i cap) (hq : f i.toNatClampNeg = some q) : Met l yJ2_elementData (ws_ yJ2_elementData cJ2_elementData 2 (some (.object "java/lang/Object"))) ({ frames := 0, cells := 0, slots := 0, locals := 0 } : Room) (va_Pc [.ref a, .int i] (fun U => va_P D vwCl [ls_o a m d n, ls_a d cA cap f] U.heap ∧ va_K D vwCl [(cA, .object "java/lang/Object")] U)) (ps_Qc (some (.ref q))) 0 0 (fun _ => False) := by
  refine rd_of (RX := RJ2) (lo := [some (.ref a), some (.int i)]) (by decide) rfl (Nat.le_of_ble_eq_true rfl) rfl (fun E C hP hr hlk hqq => ?_)
  refine ga_aload_n 1 C.c 0 rfl rfl dJ2_elementData_0 rfl ?_
  refine ga_get1 4 1 C.c C.ts (own := RJ2) (ref := RJ2) C.ow hP.2 (fun H locs h => by rw [h.1]; exact hP.1.sub [0] rfl) in_J2 rfl (by decide) q368 (fun _ h => h) rfl dJ2_elementData_1 rfl ?_
  refine ga_iload_n 5 C.c 1 rfl rfl dJ2_elementData_4 rfl ?_
  refine ga_aldq1 6 0 C.c hP.2 (fun H locs h => by rw [h.1]; exact hP.1.sub [1] rfl) rfl hi (by rw [hq]) dJ2_elementData_5 rfl ?_
  exact ps_aret C hr (Or.inl ⟨_, rfl⟩) (Or.inr ⟨_, rfl⟩) hlk hqq rfl dJ2_elementData_6
set_option maxHeartbeats 1000000 in
theorem met_J2_get (l : Launch) (D : va_G) (a d cap q N : Nat) (cA : ClassId) (f : Nat → Option Nat) (m i : Int32) (hi : vp_in i N) (hN : N ≤ cap) (hN2 : N < 2 ^ 31) (hq : f i.toNatClampNeg = some q) : Met l yJ2_get (ws_ yJ2_get cJ2_get 2 (some (.object "java/lang/Object"))) ({ frames := 2, cells := 0, slots := 0, locals := 60 } : Room) (va_Pc [.ref a, .int i] (fun U => va_P D vwCl [ls_o a m d (Int32.ofNat N), ls_a d cA cap f] U.heap ∧ va_K D vwCl [(cA, .object "java/lang/Object")] U)) (ps_Qc (some (.ref q))) 0 0 (fun _ => False) := by
  have hic : vp_in i cap := by
    obtain ⟨j, hj, rfl⟩ := vp_in_of hi hN2
    intro h
    rcases h with h | h
    · exact nI_pos (by omega) h
    · rw [nI_clamp (by omega)] at h
      omega
  have hc := vp_in_cmp hi hN2
  refine rd_of (RX := RJ2) (lo := [some (.ref a), some (.int i)]) (by decide) rfl (Nat.le_of_ble_eq_true rfl) rfl (fun E C hP hr hlk hqq => ?_)
  refine ga_iload_n 1 C.c 1 rfl rfl dJ2_get_0 rfl ?_
  refine ga_aload_n 2 C.c 0 rfl rfl dJ2_get_1 rfl ?_
  refine ga_get1 5 2 C.c C.ts (own := RJ2) (ref := RJ2) C.ow hP.2 (fun H locs h => by rw [h.1]; exact hP.1.sub [0] rfl) in_J2 rfl (by decide) q371 (fun _ h => h) rfl dJ2_get_2 rfl ?_
  refine ps_callS 8 C (as := [.int i, .int (Int32.ofNat N)]) (met_J14_checkIndex (eL E) i _ hc.1 hc.2) (lw_S q1033 q1034 q120 q1035) cd_J14_checkIndex rfl (Nat.le_of_ble_eq_true rfl) (Nat.le_of_ble_eq_true rfl) (Nat.le_of_ble_eq_true rfl) dJ2_get_5 rfl ?_
  refine ga_pop 9 C.c rfl dJ2_get_8 rfl ?_
  refine ga_aload_n 10 C.c 0 rfl rfl dJ2_get_9 rfl ?_
  refine ga_iload_n 11 C.c 1 rfl rfl dJ2_get_10 rfl ?_
  refine ga_callVP 14 (as := [.int i]) (own := RJ2) C.c C.ml C.ow C.ts (met_J2_elementData (eL E) D a d cap q cA f m _ i hic hq) (fun U g mk a h => ⟨h.1, va_K.moved (u := U) (U := U.calling g mk a) (Vm.Alike.refl U.vm) h.2⟩) (fun H locs hI U hU hW => ⟨by rw [hU, hI.1]; exact hP.1, va_K.moved hW.alike hP.2⟩) (fun H locs hI => by obtain ⟨rfl, rfl⟩ := hI; exact va_recv hP.2 hP.1 (ci := 13) (q0 := 0) rfl rfl) (lw_V q1037 q1038 q1039 q98 q1040) cd_J2_elementData rfl (by rw [C.rm]; exact Nat.le_of_ble_eq_true rfl) (by rw [C.rm]; exact Nat.le_of_ble_eq_true rfl) (by rw [C.rm]; exact Nat.le_refl _) (by rw [C.rm]; exact Nat.le_refl _) (Nat.le_of_ble_eq_true rfl) dJ2_get_11 rfl ?_
  exact ps_aret C hr (Or.inl ⟨_, rfl⟩) (Or.inr ⟨_, rfl⟩) hlk hqq rfl dJ2_get_14
end LS
