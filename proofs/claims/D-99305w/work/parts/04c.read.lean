set_option maxRecDepth 100000
/-! methods that only read: a picture P of the start's state, the heap stays. Rows generic in the picture I of the caller -/
section RD
variable {E : gE} {cc : ByteArray} {nL fr lc : Nat} {RX : String} {I : Heap → List Loc → Prop} {ka na pc : Nat} {lo : List (Option Value)} {st : List Value} {A : Nat → Prop}
theorem rd_of {l : Launch} {y : MethodName} {cc : ByteArray} {maxL : Nat} {ret : Option FieldType} {fr lc : Nat} {as : List Value} {v : Option Value} {P : State → Prop} (hy : plainName y.cls = true) (hcls : y.cls = RX) (hlen : (lg_sl as).length ≤ maxL) {lo : List (Option Value)} (hlo : ga_ps 0 lo = lv_args 0 as)
    (body : ∀ E : gE, ps_C E cc maxL fr lc RX → P (eS E) → (eT E).sig.returnType = ret → (eT E).locks = false → eQ E = MQ (eB E) (ps_Qc v) (eA E) (eS E) 0 0 (fun _ => False) → ga_W E maxL (ps_I E) 0 0 0 lo []) :
    Met l y (ws_ y cc maxL ret) ({ frames := fr, cells := 0, slots := 0, locals := lc } : Room) (va_Pc as P) (ps_Qc v) 0 0 (fun _ => False) := by
  refine Met.ofW (cc := cc) (maxL := maxL) (ret := ret) hy rfl ?_
  intro p e s m args below meth c s₁ B hml hv
  obtain ⟨rfl, hP⟩ := hv
  have hts := atoms_spec (ws := ws_ y cc maxL ret) B.pre
  have hts : ∀ w ∈ lw_all, w.before _ s = true := fun w h => hts w (List.mem_cons_of_mem _ h)
  have hown : s.vm.findClass RX = some m.cls := by rw [← hcls]; exact findClass_of_methodNamed B.named
  have hl := lv_entry as (n := maxL) hlen
  rw [lg_entry_eq]
  have K := body (p, l, e, (headSpec (ws_ y cc maxL ret) ({ frames := fr, cells := 0, slots := 0, locals := lc } : Room)).room, s, m, as.toArray, below, meth, c, MQ below (ps_Qc v) as.toArray s 0 0 (fun _ => False)) ⟨⟨B.exec, B.bytes⟩, hml, hown, hts, rfl⟩ hP B.returns B.notSynchronized rfl
  exact K s.heap [] _ ⟨rfl, rfl⟩ ⟨hl.1, hl.2.1, fun i v h => hl.2.2 (i, v) (by rw [← hlo]; exact (ga_ps_mem lo 0 i v).mpr ⟨i, by omega, h⟩)⟩
theorem ps_I.S {H : Heap} {locs : List Loc} (h : ps_I E H locs) : va_S A (eS E).heap H locs := by
  obtain ⟨rfl, rfl⟩ := h
  exact va_S.rf
theorem ps_vret (C : ps_C E cc nL fr lc RX) (hr : (eT E).sig.returnType = none) (hlk : (eT E).locks = false) (hq : eQ E = MQ (eB E) (ps_Qc none) (eA E) (eS E) 0 0 (fun _ => False)) (hd : decode cc pc = .ok (.return_, 1)) : ga_W E nL (ps_I E) 0 0 pc lo [] := by
  intro H locs ls hI hL
  obtain ⟨rfl, rfl⟩ := hI
  rw [hq]
  exact W.vret C.c.1 C.c.2 hr (fun t ht hW => ⟨rfl, ht⟩) (fun q h => by cases h) hd hlk
theorem ps_aret {v : Value} {vv : Value} {rt : FieldType} (C : ps_C E cc nL fr lc RX) (hr : (eT E).sig.returnType = some rt) (hrt : (∃ n, rt = .object n) ∨ ∃ t, rt = .array t) (hv : v = .null ∨ ∃ a, v = .ref a) (hlk : (eT E).locks = false) (hq : eQ E = MQ (eB E) (ps_Qc (some vv)) (eA E) (eS E) 0 0 (fun _ => False)) (ev : v = vv) (hd : decode cc pc = .ok (.areturn, 1)) : ga_W E nL (ps_I E) 0 0 pc lo [v] := by
  intro H locs ls hI hL
  subst ev
  obtain ⟨rfl, rfl⟩ := hI
  rw [hq]
  exact W.aret C.c.1 C.c.2 hr hrt hv (fun t ht hW => ⟨rfl, ht⟩) (fun q h => by cases h) hd hlk
/-- a read call's end: the heap, the caller's picture and its locals stay -/
theorem rd_end {v : Option Value} {cells slots : Nat} {rest : List Value} {n : Nat} {ls : Array Slot} {H : Heap} {locs : List Loc} {T : State} {g : JFrame} {a : Array Value} (hI : I H locs) (hL : ga_L ls nL lo) (hg : g = F0 (eM E) pc ls g.stack)
    (h : ∃ (v2 : Option Value) (st0 t T2 : State) (L : List Loc), st0.heap = H ∧ Stand (eP E) (eL E) (eV E) (eR E) (eS E) (eM E) (eA E) (eB E) (eT E) (eC E) T2 (locs ++ L) (cells + 0) (slots + 0) ∧ (∀ q ∈ L, False) ∧ T2.heap = t.heap ∧ T2.vm = t.vm ∧ ps_Qc v a st0 (.returned v2) t ∧ Goes (eP E) (eV E) (eB E) T g T2 { g with pc := g.pc + n, stack := v2.toList ++ rest })
    (k1 : ga_W E nL I cells slots (pc + n) lo (v.toList ++ rest)) : ∃ t, Steps (eP E).tables (eV E) (eB E) (T.setTop g) t ∧ eQ E t := by
  obtain ⟨v2, st0, t, T2, L, h0, X2, hL2, e1, e2, ⟨hv, hP2⟩, stp⟩ := h
  cases hv
  have hLn : L = [] := by
    cases L with
    | nil => rfl
    | cons q L => exact (hL2 q List.mem_cons_self).elim
  subst hLn
  have hH : T2.heap = H := by rw [e1, hP2, h0]
  obtain ⟨t2, a1, b1⟩ := k1 H locs ls hI hL T2 hH (by simpa using X2)
  refine ⟨t2, stp t2 ?_, b1⟩
  rw [hg]
  exact a1
theorem ga_callSP (pc2 : Nat) {own : String} (C : ga_C E cc) (hml : (eC E).maxLocals = nL) (how : (eS E).vm.findClass own = some (eM E).cls) (hts : ∀ w ∈ lw_all, w.before (eA E) (eS E) = true) {y : MethodName} {bytes : ByteArray} {maxL idx n f2 l2 : Nat} {ret : Option FieldType} {as : List Value} {v : Option Value} {P : State → Prop}
    (hM : Met (eL E) y (ws_ y bytes maxL ret) ({ frames := f2, cells := 0, slots := 0, locals := l2 } : Room) (va_Pc as P) (ps_Qc v) 0 0 (fun _ => False))
    (hbl : ∀ (U : State) (g : JFrame) (mk : MethodId) (a : Array Value), P U → P (U.calling g mk a)) (hP : ∀ H locs, I H locs → ∀ U : State, U.heap = H → (eS E).WarmedH U.vm → P U)
    (hw : GoodIn lw_all (va_wsS own idx y (ws_ y bytes maxL ret))) (hdd : y.cls ≠ "java/lang/invoke/MethodHandle" ∧ y.cls ≠ "java/lang/invoke/VarHandle" ∧ (parseMethodDescriptor y.desc).map (fun d => d.parameters.length) = some n) (hn : as.length = n)
    (hf : f2 + 1 ≤ (eR E).frames) (hlc : 8 + (maxL + 11) + l2 ≤ (eR E).locals) (hka : ka ≤ (eR E).cells) (hna : na ≤ (eR E).slots) (hst : (st.map fun v => v.category).sum ≤ 8) (hd : decode cc pc = .ok (.invokestatic idx, 3)) (e : pc + 3 = pc2)
    (k1 : ga_W E nL I ka na pc2 lo (v.toList ++ st)) : ga_W E nL I ka na pc lo (as.reverse ++ st) := by
  subst e
  intro H locs ls hI hL T hT X
  have cw := va_cwS (R := eR E) (s := eS E) (args := eA E) (own := own) (index := idx) (y := y) (bytes := bytes) (maxL := maxL) (ret := ret) (rm := ({ frames := f2, cells := 0, slots := 0, locals := l2 } : Room)) (mc := 0) (ms := 0) n hts hw rfl rfl rfl hdd ⟨hf, hlc⟩
  exact rd_end hI hL rfl (va_runS (S := (⟨C.1, C.2, hml, how, hts⟩ : CallFix (eP E) (eM E) (eC E) cc nL (eS E) (eA E) lw_all own)) hM cw ⟨fun a U g mk q => ⟨q.1, hbl _ _ _ _ q.2⟩, fun U hU hW => ⟨rfl, hP H locs hI U hU hW⟩⟩ (g := F0 (eM E) pc ls (as.reverse ++ st)) (rest := st) rfl hn hL.1 rfl (lv_room hst) hd ⟨hka, hna⟩ T hT X) k1
theorem ga_callVP (pc2 : Nat) {own Cn : String} {b : Addr} (C : ga_C E cc) (hml : (eC E).maxLocals = nL) (how : (eS E).vm.findClass own = some (eM E).cls) (hts : ∀ w ∈ lw_all, w.before (eA E) (eS E) = true) {y : MethodName} {bytes : ByteArray} {maxL idx n f2 l2 : Nat} {ret : Option FieldType} {as : List Value} {v : Option Value} {P : State → Prop}
    (hM : Met (eL E) y (ws_ y bytes maxL ret) ({ frames := f2, cells := 0, slots := 0, locals := l2 } : Room) (va_Pc (.ref b :: as) P) (ps_Qc v) 0 0 (fun _ => False))
    (hbl : ∀ (U : State) (g : JFrame) (mk : MethodId) (a : Array Value), P U → P (U.calling g mk a)) (hP : ∀ H locs, I H locs → ∀ U : State, U.heap = H → (eS E).WarmedH U.vm → P U)
    (hrv : ∀ H locs, I H locs → ∃ cellB : Cell, H[b]? = some cellB ∧ cellB.vm.isStatics = false ∧ (eS E).vm.findClass Cn = some cellB.cls)
    (hw : GoodIn lw_all (wsV own idx Cn y (ws_ y bytes maxL ret))) (hdd : y.cls = Cn ∧ y.cls ≠ "java/lang/invoke/MethodHandle" ∧ y.cls ≠ "java/lang/invoke/VarHandle" ∧ (parseMethodDescriptor y.desc).map (fun d => d.parameters.length) = some n) (hn : as.length = n)
    (hf : f2 + 1 ≤ (eR E).frames) (hlc : 8 + (maxL + 11) + l2 ≤ (eR E).locals) (hka : ka ≤ (eR E).cells) (hna : na ≤ (eR E).slots) (hst : (st.map fun v => v.category).sum ≤ 8) (hd : decode cc pc = .ok (.invokevirtual idx, 3)) (e : pc + 3 = pc2)
    (k1 : ga_W E nL I ka na pc2 lo (v.toList ++ st)) : ga_W E nL I ka na pc lo (as.reverse ++ .ref b :: st) := by
  subst e
  intro H locs ls hI hL T hT X
  have cw : CallW (eR E) (eS E) (eA E) own Cn idx y bytes maxL ret (ws_ y bytes maxL ret) ({ frames := f2, cells := 0, slots := 0, locals := l2 } : Room) 0 0 n := cwV n hts hw rfl rfl rfl hdd ⟨hf, hlc⟩
  exact rd_end hI hL rfl (va_runV (S := (⟨C.1, C.2, hml, how, hts⟩ : CallFix (eP E) (eM E) (eC E) cc nL (eS E) (eA E) lw_all own)) hM cw ⟨fun a U g mk q => ⟨q.1, hbl _ _ _ _ q.2⟩, hrv H locs hI, fun U hU hW => ⟨rfl, hP H locs hI U hU hW⟩⟩ (g := F0 (eM E) pc ls (as.reverse ++ .ref b :: st)) (rest := st) rfl hn hL.1 rfl (lv_room hst) hd ⟨hka, hna⟩ T hT X) k1
theorem ga_callFP (pc2 : Nat) {own Cn : String} {cC : ClassId} {b : Addr} {count : Nat} (C : ga_C E cc) (hml : (eC E).maxLocals = nL) (how : (eS E).vm.findClass own = some (eM E).cls) (hts : ∀ w ∈ lw_all, w.before (eA E) (eS E) = true) (hat : ClassAt (eS E) Cn cC) {x y : MethodName} (hF : va_Fw Cn x y (eS E)) {bytes : ByteArray} {maxL idx n f2 l2 : Nat} {ret : Option FieldType} {as : List Value} {v : Option Value} {P : State → Prop}
    (hM : Met (eL E) y (ws_ y bytes maxL ret) ({ frames := f2, cells := 0, slots := 0, locals := l2 } : Room) (va_Pc (.ref b :: as) P) (ps_Qc v) 0 0 (fun _ => False))
    (hbl : ∀ (U : State) (g : JFrame) (mk : MethodId) (a : Array Value), P U → P (U.calling g mk a)) (hP : ∀ H locs, I H locs → ∀ U : State, U.heap = H → (eS E).WarmedH U.vm → P U)
    (hrv : ∀ H locs, I H locs → ∃ cellB : Cell, H[b]? = some cellB ∧ cellB.vm.isStatics = false ∧ (eS E).vm.findClass Cn = some cellB.cls)
    (hw : GoodIn lw_all (va_wsF own idx Cn x y (ws_ y bytes maxL ret))) (hdd : x.cls ≠ "java/lang/invoke/MethodHandle" ∧ x.cls ≠ "java/lang/invoke/VarHandle" ∧ (parseMethodDescriptor x.desc).map (fun d => d.parameters.length) = some n) (hn : as.length = n)
    (hf : f2 + 1 ≤ (eR E).frames) (hlc : 8 + (maxL + 11) + l2 ≤ (eR E).locals) (hka : ka ≤ (eR E).cells) (hna : na ≤ (eR E).slots) (hst : (st.map fun v => v.category).sum ≤ 8) (hd : decode cc pc = .ok (.invokeinterface idx count, 5)) (e : pc + 5 = pc2)
    (k1 : ga_W E nL I ka na pc2 lo (v.toList ++ st)) : ga_W E nL I ka na pc lo (as.reverse ++ .ref b :: st) := by
  subst e
  intro H locs ls hI hL T hT X
  have cw : va_CI (eR E) (eS E) (eA E) own Cn idx x y bytes maxL ret (ws_ y bytes maxL ret) ({ frames := f2, cells := 0, slots := 0, locals := l2 } : Room) 0 0 n := va_cwF n hts hw rfl rfl rfl hF hdd ⟨hf, hlc⟩
  exact rd_end hI hL rfl (va_runF hat (S := (⟨C.1, C.2, hml, how, hts⟩ : CallFix (eP E) (eM E) (eC E) cc nL (eS E) (eA E) lw_all own)) hM cw ⟨fun a U g mk q => ⟨q.1, hbl _ _ _ _ q.2⟩, hrv H locs hI, fun U hU hW => ⟨rfl, hP H locs hI U hU hW⟩⟩ (g := F0 (eM E) pc ls (as.reverse ++ .ref b :: st)) (rest := st) rfl hn hL.1 rfl (lv_room hst) hd ⟨hka, hna⟩ T hT X) k1
theorem ga_gets (pc2 : Nat) (C : ga_C E cc) (hIS : ∀ H locs, I H locs → va_S A (eS E).heap H locs) {Cn n d own ref : String} {v : Value} {index : Nat} (hZ : va_Z Cn n d v A (eS E) (eS E).heap) (how : (eS E).vm.findClass own = some (eM E).cls) (hl : (Cond.fieldLink own index ref n d).before (eA E) (eS E) = true) (hs : ∀ x, (eS E).fieldFound? Cn n d = some x → (eS E).fieldFound? ref n d = some x) (hd : decode cc pc = .ok (.getstatic index, 3)) (e : pc + 3 = pc2)
    (k1 : ga_W E nL I ka na pc2 lo (v :: st)) : ga_W E nL I ka na pc lo st := by
  subst e
  exact fun H locs ls hI hL => va_gets C.1 C.2 hZ (hIS H locs hI) how hl hs hd (k1 H locs ls hI hL)
theorem ga_getOF (pc2 : Nat) (C : ga_C E cc) (hIS : ∀ H locs, I H locs → va_S A (eS E).heap H locs) {o n d own ref : String} {q index : Nat} {v : Value} (hE : va_OF o n d v q A (eS E) (eS E).heap) (how : (eS E).vm.findClass own = some (eM E).cls) (hl : (Cond.fieldLink own index ref n d).before (eA E) (eS E) = true) (hs : ∀ x, (eS E).fieldFound? o n d = some x → (eS E).fieldFound? ref n d = some x) (hd : decode cc pc = .ok (.getfield index, 3)) (e : pc + 3 = pc2)
    (k1 : ga_W E nL I ka na pc2 lo (v :: st)) : ga_W E nL I ka na pc lo (.ref q :: st) := by
  subst e
  exact fun H locs ls hI hL => vk_getf C.1 C.2 hE (hIS H locs hI) how hl hs hd (k1 H locs ls hI hL)
theorem ga_tlen (pc2 : Nat) (C : ga_C E cc) (hIS : ∀ H locs, I H locs → va_S A (eS E).heap H locs) {ty : FieldType} {t N : Nat} {f : Nat → Value} (hT : va_T ty t N f A (eS E) (eS E).heap) (hd : decode cc pc = .ok (.arraylength, 1)) (e : pc + 1 = pc2)
    (k1 : ga_W E nL I ka na pc2 lo (.int (Int32.ofNat N) :: st)) : ga_W E nL I ka na pc lo (.ref t :: st) := by
  subst e
  exact fun H locs ls hI hL => va_tlen C.1 C.2 hT (hIS H locs hI) rfl hd (k1 H locs ls hI hL)
theorem ga_tb (pc2 : Nat) (C : ga_C E cc) (hIS : ∀ H locs, I H locs → va_S A (eS E).heap H locs) {t N : Nat} {f : Nat → Value} (hT : va_T .byte t N f A (eS E) (eS E).heap) {i : Int32} (hin : vp_in i N) {v : Value} (hv : f i.toNatClampNeg = v) (hd : decode cc pc = .ok (.baload, 1)) (e : pc + 1 = pc2)
    (k1 : ga_W E nL I ka na pc2 lo (v :: st)) : ga_W E nL I ka na pc lo (.int i :: .ref t :: st) := by
  subst e
  exact fun H locs ls hI hL => va_tb C.1 C.2 hT (hIS H locs hI) hin hv hd (k1 H locs ls hI hL)
theorem ga_i2c (pc2 : Nat) (C : ga_C E cc) {x v : Int32} (hv : (x.toUInt32 % 65536).toInt32 = v) (hd : decode cc pc = .ok (.i2c, 1)) (e : pc + 1 = pc2) (k1 : ga_W E nL I ka na pc2 lo (.int v :: st)) : ga_W E nL I ka na pc lo (.int x :: st) := by
  subst e
  exact fun H locs ls hI hL => lv_i2c C.1 C.2 hd hv (k1 H locs ls hI hL)
theorem ga_null (pc2 : Nat) (C : ga_C E cc) (hd : decode cc pc = .ok (.aconst_null, 1)) (e : pc + 1 = pc2) (k1 : ga_W E nL I ka na pc2 lo (.null :: st)) : ga_W E nL I ka na pc lo st := by
  subst e
  exact fun H locs ls hI hL => lv_null C.1 C.2 hd (k1 H locs ls hI hL)
theorem ga_ifnull (pc2 : Nat) (C : ga_C E cc) {x : Nat} {off : Int} (hd : decode cc pc = .ok (.ifnull off, 3)) (e : pc + 3 = pc2) (k1 : ga_W E nL I ka na pc2 lo st) : ga_W E nL I ka na pc lo (.ref x :: st) := by
  subst e
  exact fun H locs ls hI hL => lv_ifnull C.1 C.2 hd (k1 H locs ls hI hL)
theorem ga_ifnonnull (pc2 : Nat) (C : ga_C E cc) {x : Nat} {off : Int} (hd : decode cc pc = .ok (.ifnonnull off, 3)) (ht : (pc : Int) + off = (pc2 : Int)) (k1 : ga_W E nL I ka na pc2 lo st) : ga_W E nL I ka na pc lo (.ref x :: st) := fun H locs ls hI hL => lv_ifnonnull C.1 C.2 hd ht (k1 H locs ls hI hL)
theorem ga_ifnullN (pc2 : Nat) (C : ga_C E cc) {off : Int} (hd : decode cc pc = .ok (.ifnull off, 3)) (ht : (pc : Int) + off = (pc2 : Int)) (k1 : ga_W E nL I ka na pc2 lo st) : ga_W E nL I ka na pc lo (.null :: st) := fun H locs ls hI hL => lv_ifnullN C.1 C.2 hd ht (k1 H locs ls hI hL)
theorem ga_ifnonnullN (pc2 : Nat) (C : ga_C E cc) {off : Int} (hd : decode cc pc = .ok (.ifnonnull off, 3)) (e : pc + 3 = pc2) (k1 : ga_W E nL I ka na pc2 lo st) : ga_W E nL I ka na pc lo (.null :: st) := by
  subst e
  exact fun H locs ls hI hL => lv_ifnonnullN C.1 C.2 hd (k1 H locs ls hI hL)
end RD
