set_option maxRecDepth 100000
/-! what the machine throws by itself, over ghost heaps -/
def hv_X (D : va_G) (A : Nat → Prop) (px : String → hG → Prop) : String → Nat → State → State → Prop := fun En q st t => (∃ h2 : hG, px En h2 ∧ hp D A h2 t.heap) ∧ va_F A st t
theorem hp.more {D : va_G} {A : Nat → Prop} {h : hG} {H H1 : Heap} (hh : hp D A h H) (hq : ∀ q : Nat, q < H.size → H1[q]? = H[q]?) : hp D A h H1 := by
  obtain ⟨ws, hP, hD, hw⟩ := hh
  exact ⟨ws, fun k q hk => (hP k q hk).kept (hq _ (hP k q hk).lt), hD, hw⟩
section HV
variable {E : gE} {cc : ByteArray} {nL fr lc mc ms : Nat} {RX : String} {D : va_G} {kk : Nat → Nat} {dE : Nat → Nat} {A : Nat → Prop} {h : hG} {ka na pc : Nat} {lo : List (Option Value)} {st : List Value} {post : Option Value → hG → Prop} {px : String → hG → Prop} {hh : List (Nat × Nat × Nat × Nat)} {XC : String → Nat → State → State → Prop}
theorem hv_of {l : Launch} {y : MethodName} {maxL : Nat} {ret : Option FieldType} {as : List Value} (hl0 : l.stackTraces = false) (hy : plainName y.cls = true) (hcls : y.cls = RX) (hlen : (lg_sl as).length ≤ maxL) {lo : List (Option Value)} (hlo : ga_ps 0 lo = lv_args 0 as)
    (body : ∀ E : gE, hC E cc maxL fr lc mc ms RX D kk dE A → (eL E).stackTraces = false → (∀ x ∈ (eC E).exceptionTable.toList, False) → (eT E).sig.returnType = ret → (eT E).locks = false → eQ E = vx_MQ (eB E) (hw_Qc D A post) XC (eA E) (eS E) mc ms A → ga_W E maxL (hw_I E D A h) 0 0 0 lo []) :
    vx_Met l y (ws_ y cc maxL ret) ({ frames := fr, cells := mc, slots := ms, locals := lc } : Room) (hw_Pc D kk dE A h as) (hw_Qc D A post) XC mc ms A := by
  refine vx_ofW (cc := cc) (maxL := maxL) (ret := ret) hy rfl ?_
  intro p e s m args below meth c s₁ B hml hnx hv
  obtain ⟨rfl, hP, hJ0⟩ := hv
  have hts := atoms_spec (ws := ws_ y cc maxL ret) B.pre
  have hts : ∀ w ∈ lw_all, w.before _ s = true := fun w h => hts w (List.mem_cons_of_mem _ h)
  have hown : s.vm.findClass RX = some m.cls := by rw [← hcls]; exact findClass_of_methodNamed B.named
  have hl := lv_entry as (n := maxL) hlen
  rw [lg_entry_eq]
  have K := body (p, l, e, (headSpec (ws_ y cc maxL ret) ({ frames := fr, cells := mc, slots := ms, locals := lc } : Room)).room, s, m, as.toArray, below, meth, c, vx_MQ below (hw_Qc D A post) XC as.toArray s mc ms A) ⟨⟨B.exec, B.bytes⟩, hml, hown, hts, hJ0, rfl⟩ hl0 hnx B.returns B.notSynchronized rfl
  exact K s.heap [] _ ⟨hP, va_S.rf⟩ ⟨hl.1, hl.2.1, fun i v h => hl.2.2 (i, v) (by rw [← hlo]; exact (ga_ps_mem lo 0 i v).mpr ⟨i, by omega, h⟩)⟩
theorem hv_ofH {l : Launch} {y : MethodName} {maxL : Nat} {ret : Option FieldType} {as : List Value} (hl0 : l.stackTraces = false) (hy : plainName y.cls = true) (hcls : y.cls = RX) (hlen : (lg_sl as).length ≤ maxL) {lo : List (Option Value)} (hlo : ga_ps 0 lo = lv_args 0 as)
    (body : ∀ E : gE, hC E cc maxL fr lc mc ms RX D kk dE A → (eL E).stackTraces = false → (eC E).exceptionTable.toList = tableOf hh → (eT E).sig.returnType = ret → (eT E).locks = false → eQ E = vx_MQ (eB E) (hw_Qc D A post) XC (eA E) (eS E) mc ms A → ga_W E maxL (hw_I E D A h) 0 0 0 lo []) :
    vx_Met l y (wsW_ y cc maxL ret hh) ({ frames := fr, cells := mc, slots := ms, locals := lc } : Room) (hw_Pc D kk dE A h as) (hw_Qc D A post) XC mc ms A := by
  refine vx_ofWH (cc := cc) (maxL := maxL) (ret := ret) (hh := hh) hy rfl ?_
  intro p e s m args below meth c s₁ B hml hv
  obtain ⟨rfl, hP, hJ0⟩ := hv
  have hts := atoms_spec (ws := wsW_ y cc maxL ret hh) B.pre
  have hT := vx_table (x := y) B (hts _ List.mem_cons_self)
  have hts : ∀ w ∈ lw_all, w.before _ s = true := fun w h => hts w (List.mem_cons_of_mem _ h)
  have hown : s.vm.findClass RX = some m.cls := by rw [← hcls]; exact findClass_of_methodNamed B.named
  have hl := lv_entry as (n := maxL) hlen
  rw [lg_entry_eq]
  have K := body (p, l, e, (headSpec (wsW_ y cc maxL ret hh) ({ frames := fr, cells := mc, slots := ms, locals := lc } : Room)).room, s, m, as.toArray, below, meth, c, vx_MQ below (hw_Qc D A post) XC as.toArray s mc ms A) ⟨⟨B.exec, B.bytes⟩, hml, hown, hts, hJ0, rfl⟩ hl0 hT B.returns B.notSynchronized rfl
  exact K s.heap [] _ ⟨hP, va_S.rf⟩ ⟨hl.1, hl.2.1, fun i v h => hl.2.2 (i, v) (by rw [← hlo]; exact (ga_ps_mem lo 0 i v).mpr ⟨i, by omega, h⟩)⟩
theorem hv_iret {v : Int32} {rt : FieldType} (C : hC E cc nL fr lc mc ms RX D kk dE A) (hr : (eT E).sig.returnType = some rt) (hlk : (eT E).locks = false) (hq : eQ E = vx_MQ (eB E) (hw_Qc D A post) XC (eA E) (eS E) mc ms A) {w : Int32} (hn : narrow rt (.int v) = .int w) (hka : ka ≤ mc) (hna : na ≤ ms) (hp0 : post (some (.int w)) h) (hd : decode cc pc = .ok (.ireturn, 1)) : ga_W E nL (hw_I E D A h) ka na pc lo [.int v] := by
  refine ga_widen hka hna ?_
  intro H locs ls hI hL
  rw [hq]
  exact vx_ret (ga_zret C.c.1 C.c.2 hr hn (fun t ht hW => ⟨⟨_, h, rfl, hp0, by rw [ht]; exact hI.1⟩, hI.2.F ht⟩) hI.2.2.2 hd hlk)
theorem hv_vret (C : hC E cc nL fr lc mc ms RX D kk dE A) (hr : (eT E).sig.returnType = none) (hlk : (eT E).locks = false) (hq : eQ E = vx_MQ (eB E) (hw_Qc D A post) XC (eA E) (eS E) mc ms A) (hka : ka ≤ mc) (hna : na ≤ ms) (hp0 : post none h) (hd : decode cc pc = .ok (.return_, 1)) : ga_W E nL (hw_I E D A h) ka na pc lo [] := by
  refine ga_widen hka hna ?_
  intro H locs ls hI hL
  rw [hq]
  exact vx_ret (W.vret C.c.1 C.c.2 hr (fun t ht hW => ⟨⟨_, h, rfl, hp0, by rw [ht]; exact hI.1⟩, hI.2.F ht⟩) hI.2.2.2 hd hlk)
/-- an object of the class cn is thrown here -/
def hv_T (E : gE) (nL : Nat) (D : va_G) (A : Nat → Prop) (h : hG) (ka na pc : Nat) (lo : List (Option Value)) (cn : String) : Prop :=
  ∀ (H : Heap) (locs : List Loc) (ls : Array Slot) (rest : List Value) (q : Nat) (ce : Cell), hw_I E D A h H locs → ga_L ls nL lo → H[q]? = some ce → ce.vm = .none → (eS E).vm.findClass cn = some ce.cls →
    vx_W (eP E) (eL E) (eV E) (eR E) (eS E) (eM E) (eA E) (eB E) (eT E) (eC E) H locs ka na (eQ E) (F0 (eM E) pc ls rest) q
/-- the machine notes that it throws cn with this text -/
def hv_N (E : gE) (nL : Nat) (D : va_G) (A : Nat → Prop) (h : hG) (ka na pc : Nat) (lo : List (Option Value)) (cn tx : String) : Prop :=
  ∀ (H : Heap) (locs : List Loc) (ls : Array Slot) (rest : List Value), hw_I E D A h H locs → ga_L ls nL lo → (rest.map fun v => v.category).sum ≤ 10 →
    vx_Note (eP E) (eL E) (eV E) (eR E) (eS E) (eM E) (eA E) (eB E) (eT E) (eC E) H locs ka na (eQ E) (F0 (eM E) pc ls rest) cn tx
def hv_NN (E : gE) (nL : Nat) (D : va_G) (A : Nat → Prop) (h : hG) (ka na pc : Nat) (lo : List (Option Value)) : Prop :=
  ∀ (H : Heap) (locs : List Loc) (ls : Array Slot) (rest : List Value), hw_I E D A h H locs → ga_L ls nL lo → (rest.map fun v => v.category).sum ≤ 10 →
    vx_NoteN (eP E) (eL E) (eV E) (eR E) (eS E) (eM E) (eA E) (eB E) (eT E) (eC E) H locs ka na (eQ E) (F0 (eM E) pc ls rest)
theorem hv_vm (C : hC E cc nL fr lc mc ms RX D kk dE A) (hl0 : (eL E).stackTraces = false) {cn tx : String} {names : List String} {nb : Nat} (hcls : Bundle.fit cn = true) (hnames : ∀ n ∈ names, Bundle.fit n = true) (hsoe : (cn == "java/lang/StackOverflowError") = false) (hoom : (cn == "java/lang/OutOfMemoryError") = false)
    (hat : ∀ w ∈ vx_atM cn names, w.before (eA E) (eS E) = true) (hgood : ∀ w ∈ vx_atM cn names, vx_ot w = true) (htext : (tx == notModelled) = false) (hnb : (stringBytes (stringToUtf16 tx)).size ≤ nb) (hnb1 : nb ≤ 1000) (hfr : names.length + 4 < fr) (hlc : 10260 ≤ lc) (hshort : 13 * names.length + 55 ≤ 10240) (hka : ka + 3 ≤ mc) (hna : na + (nb + 10) ≤ ms) (hlk : (eT E).locks = false)
    (k : hv_T E nL D A h (ka + 3) (na + (nb + 10)) pc lo cn) : hv_N E nL D A h ka na pc lo cn tx := fun H locs ls rest hI hL hst =>
  vx_vm C.c.1 hl0 (names := names) (nb := nb) hcls hnames hsoe hoom hat hgood C.u C.v hI.2 (by rw [C.ml]; exact hL.1) htext hnb hnb1 (by rw [C.rm]; exact hfr) (by rw [C.rm]; show _ + 10240 ≤ lc; omega) hshort (by rw [C.rm]; exact hka) (by rw [C.rm]; exact hna) hlk
    (fun H1 q9 ce h1 h2 h3 h4 h5 h6 => k H1 locs ls rest q9 ce ⟨hI.1.more h2, h3⟩ hL h4 h5 h6)
theorem hv_npe (C : hC E cc nL fr lc mc ms RX D kk dE A) (hl0 : (eL E).stackTraces = false) (hfr : 7 < fr) (hlc : 10260 ≤ lc) (hka : ka + 1 ≤ mc) (hna : na + 8 ≤ ms) (hlk : (eT E).locks = false)
    (k : hv_T E nL D A h (ka + 1) (na + 8) pc lo "java/lang/NullPointerException") : hv_NN E nL D A h ka na pc lo := fun H locs ls rest hI hL hst =>
  vx_npe C.c.1 hl0 (nb := 8) (vm_npe_at C.ts C.s C.nc.2) vm_npe_good C.u C.v hI.2 (by rw [C.ml]; exact hL.1) (by rw [C.rm]; exact hfr) (by rw [C.rm]; show _ + 10240 ≤ lc; omega) (by rw [C.rm]; exact hka) (by rw [C.rm]; exact hna) hlk
    (fun H1 q9 ce h1 h2 h3 h4 h5 h6 => k H1 locs ls rest q9 ce ⟨hI.1.more h2, h3⟩ hL h4 h5 h6)
/-- no handler takes it -/
theorem hv_out (C : hC E cc nL fr lc mc ms RX D kk dE A) (hlk : (eT E).locks = false) (hq : eQ E = vx_MQ (eB E) (hw_Qc D A post) (hv_X D A px) (eA E) (eS E) mc ms A) {cn : String}
    (hpass : ∀ z ∈ (eC E).exceptionTable.toList, covers z pc = false ∨ (z.catchType ≠ 0 ∧ ∃ nm : String, Cond.classLink RX z.catchType nm ∈ lw_all ∧ (cn, nm) ∈ hn_l)) (hka : ka ≤ mc) (hna : na ≤ ms) (hp0 : px cn h) : hv_T E nL D A h ka na pc lo cn := by
  intro H locs ls rest q ce hI hL hcell hv hcl
  rw [hq]
  exact vx_outP (E := cn) C.ow hlk (fun z hz => (hpass z hz).imp id (fun ⟨h0, nm, h1, h2⟩ => ⟨h0, nm, C.ts _ h1, C.nc.1 _ h2⟩)) hcell hv hcl (fun t ht _ => ⟨⟨h, hp0, by rw [ht]; exact hI.1⟩, hI.2.F ht⟩) hI.2.2.2 hka hna
/-- a handler takes it -/
theorem hv_catch (C : hC E cc nL fr lc mc ms RX D kk dE A) (hT : (eC E).exceptionTable.toList = tableOf hh) (pre : List ExceptionTableEntry) (x : ExceptionTableEntry) (suf : List ExceptionTableEntry) (hs : tableOf hh = pre ++ x :: suf) {cn name : String}
    (hpre : ∀ z ∈ pre, covers z pc = false ∨ (z.catchType ≠ 0 ∧ ∃ nm : String, Cond.classLink RX z.catchType nm ∈ lw_all ∧ (cn, nm) ∈ hn_l)) (hx : covers x pc = true) (h0 : x.catchType ≠ 0) (hlk : Cond.classLink RX x.catchType name ∈ lw_all) (hc : (cn, name) ∈ hc_l)
    (k : ∀ q, ga_W E nL (hw_I E D A h) ka na x.handlerPc lo [.ref q]) : hv_T E nL D A h ka na pc lo cn := by
  intro H locs ls rest q ce hI hL hcell hv hcl
  exact vx_catch (E := cn) (name := name) C.ow pre x suf (hT.trans hs) (fun z hz => (hpre z hz).imp id (fun ⟨h0, nm, h1, h2⟩ => ⟨h0, nm, C.ts _ h1, C.nc.1 _ h2⟩)) hx h0 (C.ts _ hlk) (va_Nw.use rfl (C.s _ hc)) hcell hv hcl (k q H locs ls hI hL)
/-- the faults of the instructions -/
theorem hv_newarrayZ (C : hC E cc nL fr lc mc ms RX D kk dE A) {atype : ArrayType} {n : Int32} (h0 : n < 0) (hst : (st.map fun v => v.category).sum ≤ 10) (hd : decode cc pc = .ok (.newarray atype, 2)) (k : ∀ tx : String, tx = toString n → hv_N E nL D A h ka na pc lo "java/lang/NegativeArraySizeException" tx) : ga_W E nL (hw_I E D A h) ka na pc lo (.int n :: st) :=
  fun H locs ls hI hL => vx_newarrayZ C.c.1 C.c.2 h0 hd (fun tx ht => k tx ht H locs ls st hI hL hst)
theorem hv_bastZ (t0 : Nat) (C : hC E cc nL fr lc mc ms RX D kk dE A) {a n : Nat} {cA : ClassId} {f : Nat → Int32} {i x : Int32} (ha : h a = some (.inl (cA, n, .inl f))) (ht : (xw_tys kk)[t0]? = some (cA, .byte)) (hout : ¬ vp_in i n) (hst : (st.map fun v => v.category).sum ≤ 10) (hd : decode cc pc = .ok (.bastore, 1)) (k : ∀ tx : String, tx = (toString "Index " ++ toString i ++ toString " out of bounds for length " ++ toString n : String) → hv_N E nL D A h ka na pc lo "java/lang/ArrayIndexOutOfBoundsException" tx) : ga_W E nL (hw_I E D A h) ka na pc lo (.int x :: .int i :: .ref a :: st) :=
  fun H locs ls hI hL => vx_bastZ C.c.1 C.c.2 C.k (hI.1.one ha) 0 t0 rfl ht hout hd (fun tx ht => k tx ht H locs ls st hI hL hst)
theorem hv_sastZ (t0 : Nat) (C : hC E cc nL fr lc mc ms RX D kk dE A) {a n : Nat} {cA : ClassId} {f : Nat → Int32} {i x : Int32} (ha : h a = some (.inl (cA, n, .inl f))) (ht : (xw_tys kk)[t0]? = some (cA, .short)) (hout : ¬ vp_in i n) (hst : (st.map fun v => v.category).sum ≤ 10) (hd : decode cc pc = .ok (.sastore, 1)) (k : ∀ tx : String, tx = (toString "Index " ++ toString i ++ toString " out of bounds for length " ++ toString n : String) → hv_N E nL D A h ka na pc lo "java/lang/ArrayIndexOutOfBoundsException" tx) : ga_W E nL (hw_I E D A h) ka na pc lo (.int x :: .int i :: .ref a :: st) :=
  fun H locs ls hI hL => vx_sastZ C.c.1 C.c.2 C.k (hI.1.one ha) 0 t0 rfl ht hout hd (fun tx ht => k tx ht H locs ls st hI hL hst)
theorem hv_iastZ (t0 : Nat) (C : hC E cc nL fr lc mc ms RX D kk dE A) {a n : Nat} {cA : ClassId} {f : Nat → Int32} {i x : Int32} (ha : h a = some (.inl (cA, n, .inl f))) (ht : (xw_tys kk)[t0]? = some (cA, .int)) (hout : ¬ vp_in i n) (hst : (st.map fun v => v.category).sum ≤ 10) (hd : decode cc pc = .ok (.iastore, 1)) (k : ∀ tx : String, tx = (toString "Index " ++ toString i ++ toString " out of bounds for length " ++ toString n : String) → hv_N E nL D A h ka na pc lo "java/lang/ArrayIndexOutOfBoundsException" tx) : ga_W E nL (hw_I E D A h) ka na pc lo (.int x :: .int i :: .ref a :: st) :=
  fun H locs ls hI hL => vx_iastZ C.c.1 C.c.2 C.k (hI.1.one ha) 0 t0 rfl ht hout hd (fun tx ht => k tx ht H locs ls st hI hL hst)
theorem hv_lastZ (t0 : Nat) (C : hC E cc nL fr lc mc ms RX D kk dE A) {a n : Nat} {cA : ClassId} {f : Nat → Int64} {i : Int32} {x : Int64} (ha : h a = some (.inl (cA, n, .inr (.inl f)))) (ht : (xw_tys kk)[t0]? = some (cA, .long)) (hout : ¬ vp_in i n) (hst : (st.map fun v => v.category).sum ≤ 10) (hd : decode cc pc = .ok (.lastore, 1)) (k : ∀ tx : String, tx = (toString "Index " ++ toString i ++ toString " out of bounds for length " ++ toString n : String) → hv_N E nL D A h ka na pc lo "java/lang/ArrayIndexOutOfBoundsException" tx) : ga_W E nL (hw_I E D A h) ka na pc lo (.long x :: .int i :: .ref a :: st) :=
  fun H locs ls hI hL => vx_lastZ C.c.1 C.c.2 C.k (hI.1.one ha) 0 t0 rfl ht hout hd (fun tx ht => k tx ht H locs ls st hI hL hst)
theorem hv_iastN (C : hC E cc nL fr lc mc ms RX D kk dE A) {i x : Int32} (hst : (st.map fun v => v.category).sum ≤ 10) (hd : decode cc pc = .ok (.iastore, 1)) (k : hv_NN E nL D A h ka na pc lo) : ga_W E nL (hw_I E D A h) ka na pc lo (.int x :: .int i :: .null :: st) :=
  fun H locs ls hI hL => vx_iastoreN C.c.1 C.c.2 hd (k H locs ls st hI hL hst)
/-- an index out of bounds: thrown -/
theorem hv_aio (C : hC E cc nL fr lc mc ms RX D kk dE A) (hl0 : (eL E).stackTraces = false) {i : Int32} {n : Nat} (hn : n < 2 ^ 31) (hfr : 8 ≤ fr) (hlc : 10260 ≤ lc) (hka : ka + 3 ≤ mc) (hna : na + (212 + 10) ≤ ms) (hlk : (eT E).locks = false)
    (k : hv_T E nL D A h (ka + 3) (na + (212 + 10)) pc lo "java/lang/ArrayIndexOutOfBoundsException") : ∀ tx : String, tx = (toString "Index " ++ toString i ++ toString " out of bounds for length " ++ toString n : String) → hv_N E nL D A h ka na pc lo "java/lang/ArrayIndexOutOfBoundsException" tx := by
  rintro tx rfl
  exact hv_vm C hl0 (names := ["java/lang/IndexOutOfBoundsException", "java/lang/RuntimeException", "java/lang/Exception"]) (nb := 212) (by decide +kernel) (by decide +kernel) (by decide +kernel) (by decide +kernel) (vm_aio_at C.ts C.s C.nc.2) vm_aio_good (index_text_modelled i n) (index_text_bytes i hn) (by decide) (by show 3 + 4 < fr; omega) hlc (by decide) hka hna hlk k
theorem hv_nas (C : hC E cc nL fr lc mc ms RX D kk dE A) (hl0 : (eL E).stackTraces = false) {n : Int32} (h0 : n < 0) (hfr : 8 ≤ fr) (hlc : 10260 ≤ lc) (hka : ka + 3 ≤ mc) (hna : na + (44 + 10) ≤ ms) (hlk : (eT E).locks = false)
    (k : hv_T E nL D A h (ka + 3) (na + (44 + 10)) pc lo "java/lang/NegativeArraySizeException") : ∀ tx : String, tx = toString n → hv_N E nL D A h ka na pc lo "java/lang/NegativeArraySizeException" tx := by
  rintro tx rfl
  exact hv_vm C hl0 (names := ["java/lang/RuntimeException", "java/lang/Exception"]) (nb := 44) (by decide +kernel) (by decide +kernel) (by decide +kernel) (by decide +kernel) (vm_nas_at C.ts C.s C.nc.2) vm_nas_good (negative_text_modelled h0) (negative_text_bytes n) (by decide) (by show 2 + 4 < fr; omega) hlc (by decide) hka hna hlk k
/-- a call of a method that may throw -/
theorem hv_end {m2 s2 : Nat} {px1 : String → hG → Prop} {q : Nat} {st0 t T2 T0 : State} {L : List Loc} {En : String} {ce : Cell} {H : Heap} {locs : List Loc} {ls : Array Slot} {stk rest : List Value} (hI : hw_I E D A h H locs) (hL : ga_L ls nL lo)
    (h9 : st0.heap = H) (X2 : Stand (eP E) (eL E) (eV E) (eR E) (eS E) (eM E) (eA E) (eB E) (eT E) (eC E) T2 (locs ++ L) (ka + m2) (na + s2)) (hL2 : ∀ z ∈ L, A z.base) (e1 : T2.heap = t.heap) (hXC : hv_X D A px1 En q st0 t) (hce : t.heap[q]? = some ce) (hvm : ce.vm = .none) (hcl2 : (eS E).vm.findClass En = some ce.cls)
    (stp : Steps (eP E).tables (eV E) (eB E) (T0.setTop (F0 (eM E) pc ls stk)) ((T2.setTop (F0 (eM E) pc ls rest)).pushFrame (.throwing q))) (k2 : ∀ cn h2, px1 cn h2 → hv_T E nL D A h2 (ka + m2) (na + s2) pc lo cn) : ∃ t, Steps (eP E).tables (eV E) (eB E) (T0.setTop (F0 (eM E) pc ls stk)) t ∧ eQ E t := by
  obtain ⟨⟨h2, hp1, hP2⟩, hF⟩ := hXC
  have hS2 := ga_step hI.2 h9 e1 hF hL2
  obtain ⟨t2, a1, b1⟩ := k2 En h2 hp1 T2.heap (locs ++ L) ls rest q ce ⟨by rw [e1]; exact hP2, hS2⟩ hL (by rw [e1]; exact hce) hvm hcl2 T2 rfl X2
  exact ⟨t2, stp.trans a1, b1⟩
theorem hv_callV (pc2 : Nat) (C : hC E cc nL fr lc mc ms RX D kk dE A) {post1 : Option Value → hG → Prop} {px1 : String → hG → Prop} {a ci : Nat} {fs : List Value} {Cn : String} {T : u_T} {N : Nat} {y : MethodName} {bytes : ByteArray} {maxL idx n f2 l2 m2 s2 : Nat} {ret : Option FieldType} {as : List Value}
    (hM : vx_Met (eL E) y (ws_ y bytes maxL ret) ({ frames := f2, cells := m2, slots := s2, locals := l2 } : Room) (hw_Pc D kk dE A h (.ref a :: as)) (hw_Qc D A post1) (hv_X D A px1) m2 s2 A)
    (ha : h a = some (.inr (ci, fs))) (hcl : vwCl[ci]? = some (Cn, T, N)) (hw : GoodIn lw_all (wsV RX idx Cn y (ws_ y bytes maxL ret))) (hdd : y.cls = Cn ∧ y.cls ≠ "java/lang/invoke/MethodHandle" ∧ y.cls ≠ "java/lang/invoke/VarHandle" ∧ (parseMethodDescriptor y.desc).map (fun d => d.parameters.length) = some n) (hn : as.length = n)
    (hf : f2 + 1 ≤ fr) (hlc : 8 + (maxL + 11) + l2 ≤ lc) (hka : ka + m2 ≤ mc) (hna : na + s2 ≤ ms) (hst : (st.map fun v => v.category).sum ≤ 8) (hd : decode cc pc = .ok (.invokevirtual idx, 3)) (e : pc + 3 = pc2)
    (k1 : ∀ v h2, post1 v h2 → ga_W E nL (hw_I E D A h2) (ka + m2) (na + s2) pc2 lo (v.toList ++ st)) (k2 : ∀ cn h2, px1 cn h2 → hv_T E nL D A h2 (ka + m2) (na + s2) pc lo cn) : ga_W E nL (hw_I E D A h) ka na pc lo (as.reverse ++ .ref a :: st) := by
  subst e
  intro H locs ls hI hL T0 hT S
  have cw : CallW (eR E) (eS E) (eA E) RX Cn idx y bytes maxL ret (ws_ y bytes maxL ret) ({ frames := f2, cells := m2, slots := s2, locals := l2 } : Room) m2 s2 n := cwV n C.ts hw rfl rfl rfl hdd (by rw [C.rm]; exact ⟨hf, hlc⟩)
  have hp := hw_pre (as := .ref a :: as) C hI
  rcases vx_runV (S := (⟨C.c.1, C.c.2, C.ml, C.ow, C.ts⟩ : CallFix (eP E) (eM E) (eC E) cc nL (eS E) (eA E) lw_all RX)) hM cw ⟨hp.1, hw_recv C hI ha hcl, hp.2⟩ (g := F0 (eM E) pc ls (as.reverse ++ .ref a :: st)) (rest := st) rfl hn hL.1 rfl (lv_room hst) hd (by rw [C.rm]; exact ⟨hka, hna⟩) T0 hT S with hr | hr
  · exact hw_end hI hL rfl hr k1
  · obtain ⟨q, st0, t, T2, L, En, ce, h9, X2, hL2, e1, e2, hXC, hce, hvm, hcl2, stp⟩ := hr
    exact hv_end hI hL h9 X2 hL2 e1 hXC hce hvm hcl2 stp k2
theorem hv_callVH (pc2 : Nat) (C : hC E cc nL fr lc mc ms RX D kk dE A) {hh1 : List (Nat × Nat × Nat × Nat)} {post1 : Option Value → hG → Prop} {px1 : String → hG → Prop} {a ci : Nat} {fs : List Value} {Cn : String} {T : u_T} {N : Nat} {y : MethodName} {bytes : ByteArray} {maxL idx n f2 l2 m2 s2 : Nat} {ret : Option FieldType} {as : List Value}
    (hM : vx_Met (eL E) y (wsW_ y bytes maxL ret hh1) ({ frames := f2, cells := m2, slots := s2, locals := l2 } : Room) (hw_Pc D kk dE A h (.ref a :: as)) (hw_Qc D A post1) (hv_X D A px1) m2 s2 A)
    (ha : h a = some (.inr (ci, fs))) (hcl : vwCl[ci]? = some (Cn, T, N)) (hw : GoodIn lw_all (wsV RX idx Cn y (wsW_ y bytes maxL ret hh1))) (hdd : y.cls = Cn ∧ y.cls ≠ "java/lang/invoke/MethodHandle" ∧ y.cls ≠ "java/lang/invoke/VarHandle" ∧ (parseMethodDescriptor y.desc).map (fun d => d.parameters.length) = some n) (hn : as.length = n)
    (hf : f2 + 1 ≤ fr) (hlc : 8 + (maxL + 11) + l2 ≤ lc) (hka : ka + m2 ≤ mc) (hna : na + s2 ≤ ms) (hst : (st.map fun v => v.category).sum ≤ 8) (hd : decode cc pc = .ok (.invokevirtual idx, 3)) (e : pc + 3 = pc2)
    (k1 : ∀ v h2, post1 v h2 → ga_W E nL (hw_I E D A h2) (ka + m2) (na + s2) pc2 lo (v.toList ++ st)) (k2 : ∀ cn h2, px1 cn h2 → hv_T E nL D A h2 (ka + m2) (na + s2) pc lo cn) : ga_W E nL (hw_I E D A h) ka na pc lo (as.reverse ++ .ref a :: st) := by
  subst e
  intro H locs ls hI hL T0 hT S
  have cw : vx_CVW (eR E) (eS E) (eA E) RX Cn idx y bytes maxL ret hh1 (wsW_ y bytes maxL ret hh1) ({ frames := f2, cells := m2, slots := s2, locals := l2 } : Room) m2 s2 n := vx_cwVW n C.ts hw rfl rfl rfl hdd (by rw [C.rm]; exact ⟨hf, hlc⟩)
  have hp := hw_pre (as := .ref a :: as) C hI
  rcases vx_runVX (S := (⟨C.c.1, C.c.2, C.ml, C.ow, C.ts⟩ : CallFix (eP E) (eM E) (eC E) cc nL (eS E) (eA E) lw_all RX)) hM cw ⟨hp.1, hw_recv C hI ha hcl, hp.2⟩ (g := F0 (eM E) pc ls (as.reverse ++ .ref a :: st)) (rest := st) rfl hn hL.1 rfl (lv_room hst) hd (by rw [C.rm]; exact ⟨hka, hna⟩) T0 hT S with hr | hr
  · exact hw_end hI hL rfl hr k1
  · obtain ⟨q, st0, t, T2, L, En, ce, h9, X2, hL2, e1, e2, hXC, hce, hvm, hcl2, stp⟩ := hr
    exact hv_end hI hL h9 X2 hL2 e1 hXC hce hvm hcl2 stp k2
end HV
/-! a cast that fails: a long[] is no int[] -/
def ct_1 : String := "class [J cannot be cast to class [I ([J and [I are in module java.base of loader 'bootstrap')"
def ct_2 : String := "class [J cannot be cast to class [I ([J and [I are in unnamed module of loader 'bootstrap')"
theorem ct_text (vm : Vm) (s t : Class) (hs : s.name = "[J") (hs2 : s.hidden = none) (hs3 : s.loader = none) (hs4 : s.ofPrimitives = true) (ht : t.name = "[I") (ht2 : t.hidden = none) (ht3 : t.loader = none) (ht4 : t.ofPrimitives = true) : checkcast.message vm s t = ct_1 ∨ checkcast.message vm s t = ct_2 := by
  have e1 : s.shown = "[J" := by
    unfold Class.shown
    rw [hs2, hs]
    show dotted "[J" = "[J"
    decide +kernel
  have e2 : t.shown = "[I" := by
    unfold Class.shown
    rw [ht2, ht]
    show dotted "[I" = "[I"
    decide +kernel
  have m1 : vm.moduleOf s = vm.modules.find? (·.name == "java.base") := by
    unfold Vm.moduleOf
    rw [if_pos hs4]
  have m2 : vm.moduleOf t = vm.modules.find? (·.name == "java.base") := by
    unfold Vm.moduleOf
    rw [if_pos ht4]
  have hsm : vm.sameModule s t = true := by
    unfold Vm.sameModule
    rw [m1, m2]
    cases vm.modules.find? (·.name == "java.base") with
    | none => simp [hs3, ht3]
    | some x => simp
  have hm : vm.home s = "module java.base of loader 'bootstrap'" ∨ vm.home s = "unnamed module of loader 'bootstrap'" := by
    unfold Vm.home
    rw [m1, hs3]
    cases c : vm.modules.find? (·.name == "java.base") with
    | none =>
      refine Or.inr ?_
      show "unnamed module" ++ " of loader " ++ "'bootstrap'" = _
      decide +kernel
    | some x =>
      have hx := List.find?_some c
      simp only [beq_iff_eq] at hx
      refine Or.inl ?_
      show "module " ++ x.name ++ " of loader " ++ "'bootstrap'" = _
      rw [hx]
      decide +kernel
  unfold checkcast.message Vm.homes
  rw [if_pos hsm, e1, e2]
  rcases hm with hm | hm
  · rw [hm]
    exact Or.inl (by decide +kernel)
  · rw [hm]
    exact Or.inr (by decide +kernel)
theorem ct_ok {tx : String} (h : tx = ct_1 ∨ tx = ct_2) : (tx == notModelled) = false ∧ (stringBytes (stringToUtf16 tx)).size ≤ 200 := by
  rcases h with rfl | rfl
  · exact ⟨by decide +kernel, by decide +kernel⟩
  · exact ⟨by decide +kernel, by decide +kernel⟩
theorem vy_fc {vm : Vm} {name : String} {c : ClassId} (h : vm.findClass name = some c) : ∃ k, vm.classes[c]? = some k ∧ k.name = name ∧ k.hidden = none ∧ k.loader = none := by
  obtain ⟨hlt, hp, _⟩ := Array.findIdx?_eq_some_iff_getElem.mp h
  refine ⟨vm.classes[c], by simp [hlt], ?_⟩
  simp only [Bool.and_eq_true, beq_iff_eq, Option.isNone_iff_eq_none] at hp
  exact ⟨hp.1.1.1, hp.1.1.2, hp.2⟩
theorem vy_castNo {p : Program} {l : Launch} {e : Env} {R : Room} {s : State} {m : MethodId} {args : Array Value} {below : List Frame} {meth : Method} {c : Code} {T : State} {locs : List Loc} {cells slots : Nat} (X : Stand p l e R s m args below meth c T locs cells slots) (hexec : p.tables.exec = Jvm.exec)
    {own name : String} {index : Nat} (hown : s.vm.findClass own = some m.cls) (hlink : (Cond.classLink own index name).before args s = true)
    {a : Addr} {cell : Cell} {cT : ClassId} {ks : Class} (hcell : T.heap[a]? = some cell) (hobj : ∀ k, cell.vm ≠ .statics k) (hks : s.vm.classes[cell.cls]? = some ks)
    (hcT : s.vm.findClass name = some cT) (hasg : s.vm.assignable cell.cls cT = false)
    {g : JFrame} (hg : g.method = m) {rest : List Value} (hstack : g.stack = .ref a :: rest) (hdg : decode c.code g.pc = .ok (.checkcast index, 3)) :
    ∃ (vm' : Vm) (ks' kt kt' : Class), s.vm.classes[cT]? = some kt ∧ ks' = { ks with resolved := ks'.resolved, nestHost := ks'.nestHost, nestHostError := ks'.nestHostError } ∧ kt' = { kt with resolved := kt'.resolved, nestHost := kt'.nestHost, nestHostError := kt'.nestHostError } ∧
      Stand p l e R s m args below meth c (T.setVm vm') locs cells slots ∧
      ∀ target, Steps p.tables e below (((T.setVm vm').setTop g).pushFrame (.throwNew "java/lang/ClassCastException" (some (checkcast.message vm' ks' kt')) none)) target → Steps p.tables e below (T.setTop g) target := by
  have hpl : e.platform.magicAccessors = ({} : Platform).magicAccessors := by rw [X.admits.platform]
  obtain ⟨c', hc', hcl⟩ := Cond.classLink_spec hown hlink e.platform hpl
  cases hcT.symm.trans hc'
  obtain ⟨dk, _, _, kt, hd, _, _, _, _, hkt, _, hopen⟩ := hcl.here
  have hcl₀ := X.warmed.classLinks hcl
  have hW' : s.WarmedH (T.vm.noted m.cls index (.cls cT)) := X.warmed.noted hd hopen (State.rightAt_cls hcl)
  obtain ⟨ks', hks', es⟩ := hW'.alike.2.2 _ _ hks
  obtain ⟨kt', hkt', et⟩ := hW'.alike.2.2 _ _ hkt
  refine ⟨_, ks', kt, kt', hkt, es, et, X.noted hW', fun target hrest => ?_⟩
  subst hg
  jvm_step X.here [hexec, hdg, checkcast.wp_cold (e := e) (s := T) (f := g) X.here.top hstack (resolveClass_links e.toSetting hcl₀) hcl₀.ready,
    checkcast.wp_ready (e := e) (s := T.setVm (T.vm.noted g.method.cls index (.cls cT))) (f := g) X.here.top hcl₀.ready hstack]
  refine ⟨cell, hcell, hobj, ks', hks', kt', hkt', ?_⟩
  rw [if_neg (by rw [hW'.alike.assignable, hasg]; decide)]
  exact hrest
theorem vy_prim {k : Class} {nm : String} (hn : k.name = nm) (hl : (withoutBrackets nm).length = 1) (ha : ∃ c t, k.kind = .array c t) : k.ofPrimitives = true := by
  obtain ⟨c, t, hk⟩ := ha
  unfold Class.ofPrimitives
  rw [hk, hn]
  simp [hl]
theorem hv_castX {E : gE} {cc : ByteArray} {nL fr lc mc ms : Nat} {RX : String} {D : va_G} {kk : Nat → Nat} {dE : Nat → Nat} {A : Nat → Prop} {h : hG} {ka na pc : Nat} {lo : List (Option Value)} {st : List Value} (C : hC E cc nL fr lc mc ms RX D kk dE A) {idx a n : Nat} {f : Nat → Int64} (ha : h a = some (.inl (kk 1, n, .inr (.inl f)))) (hl : Cond.classLink RX idx "[I" ∈ lw_all) (hst : (st.map fun v => v.category).sum ≤ 8) (hd : decode cc pc = .ok (.checkcast idx, 3))
    (k : ∀ tx : String, (tx == notModelled) = false → (stringBytes (stringToUtf16 tx)).size ≤ 200 → hv_N E nL D A h ka na pc lo "java/lang/ClassCastException" tx) : ga_W E nL (hw_I E D A h) ka na pc lo (.ref a :: st) := by
  intro H locs ls hI hL T hT X
  have hc := xk_cls C.k
  have h1 : H[a]? = some (vp_cell (kk 1) (n, .inr (.inl f))) := hI.1.one ha 0 _ rfl
  obtain ⟨k1, hk1, kn1, kh1, kl1⟩ := vy_fc hc.2.1
  obtain ⟨k2, hk2, kn2, kh2, kl2⟩ := vy_fc hc.1
  obtain ⟨c1, c2, n1, n2, n3⟩ := C.j.2.2.2.2.1.2.2.2.2.2
  cases Option.some.inj (n1.symm.trans hc.2.1)
  cases Option.some.inj (n2.symm.trans hc.1)
  have a1 : ∃ c t, k1.kind = .array c t := by
    obtain ⟨k9, e1, c9, e2⟩ := ((C.k.2 1 _ rfl).1 n (fun j => .long (f j))).2
    cases Option.some.inj (hk1.symm.trans e1)
    exact ⟨c9, _, e2⟩
  have a2 : ∃ c t, k2.kind = .array c t := by
    obtain ⟨k9, e1, c9, e2⟩ := ((C.k.2 0 _ rfl).1 n (fun j => .long (f j))).2
    cases Option.some.inj (hk2.symm.trans e1)
    exact ⟨c9, _, e2⟩
  obtain ⟨vm', ks', kt, kt', hkt, es, et, X2, stp⟩ := vy_castNo X C.c.1 (own := RX) (name := "[I") (index := idx) C.ow (C.ts _ hl) (a := a) (cell := vp_cell (kk 1) (n, .inr (.inl f))) (by rw [hT]; exact h1) (fun k q => by cases q) hk1 hc.1 n3 (g := F0 (eM E) pc ls (.ref a :: st)) rfl (rest := st) rfl (by rw [C.c.2]; exact hd)
  cases Option.some.inj (hk2.symm.trans hkt)
  have o1 : ks'.ofPrimitives = true := vy_prim (nm := "[J") (by rw [es]; exact kn1) (by decide +kernel) (by rw [es]; exact a1)
  have o2 : kt'.ofPrimitives = true := vy_prim (nm := "[I") (by rw [et]; exact kn2) (by decide +kernel) (by rw [et]; exact a2)
  have tx := ct_ok (ct_text vm' ks' kt' (by rw [es]; exact kn1) (by rw [es]; exact kh1) (by rw [es]; exact kl1) o1 (by rw [et]; exact kn2) (by rw [et]; exact kh2) (by rw [et]; exact kl2) o2)
  obtain ⟨t, b1, b2⟩ := k _ tx.1 tx.2 H locs ls (.ref a :: st) hI hL (by have h9 : ((Value.ref a :: st).map fun v => v.category).sum = 1 + (st.map fun v => v.category).sum := (by rw [List.map_cons, List.sum_cons]; rfl); omega) (T.setVm vm') hT X2
  exact ⟨t, stp t b1, b2⟩
section NU
variable {E : gE} {cc : ByteArray} {nL : Nat} {I : Heap → List Loc → Prop} {ka na pc : Nat} {lo : List (Option Value)} {st : List Value}
theorem ga_aloadN (pc2 : Nat) (C : ga_C E cc) {i : Nat} (hl : lo[i]? = some (some .null)) (hd : decode cc pc = .ok (.aload i, 2)) (e : pc + 2 = pc2) (k1 : ga_W E nL I ka na pc2 lo (.null :: st)) : ga_W E nL I ka na pc lo st := by
  subst e
  exact fun H locs ls hI hL => lv_aloadN C.1 C.2 hd (hL.2.2 i _ hl) (k1 H locs ls hI hL)
theorem ga_astoreN (pc2 : Nat) (C : ga_C E cc) (i : Nat) (hn : i < nL) (hok : ga_ok lo i = true) (hd : decode cc pc = .ok (.astore i, 2)) (e : pc + 2 = pc2) (kk : ga_W E nL I ka na pc2 (lo.set i (some .null)) st) : ga_W E nL I ka na pc lo (.null :: st) := by
  subst e
  exact fun H locs ls hI hL => lv_astoreN C.1 C.2 hd hL.has hn rfl (fun ls2 h2 => kk H locs ls2 hI (ga_L.put1 hok h2))
theorem ga_instN (pc2 : Nat) (C : ga_C E cc) {idx : Nat} (hd : decode cc pc = .ok (.instanceof idx, 3)) (e : pc + 3 = pc2) (k1 : ga_W E nL I ka na pc2 lo (.int 0 :: st)) : ga_W E nL I ka na pc lo (.null :: st) := by
  subst e
  exact fun H locs ls hI hL => lv_instN C.1 C.2 hd (k1 H locs ls hI hL)
theorem ga_castN (pc2 : Nat) (C : ga_C E cc) {idx : Nat} (hd : decode cc pc = .ok (.checkcast idx, 3)) (e : pc + 3 = pc2) (k1 : ga_W E nL I ka na pc2 lo (.null :: st)) : ga_W E nL I ka na pc lo (.null :: st) := by
  subst e
  exact fun H locs ls hI hL => lv_castN C.1 C.2 hd (k1 H locs ls hI hL)
end NU
/-- a number cut to a slot's width -/
def xs_cut (d : Int32) (v : Int64) : Int64 := if d = 0 then (vp_nar .byte v.toInt32.toInt8.toInt32).toInt64 else if d = 1 then (vp_nar .short v.toInt32.toInt16.toInt32).toInt64 else if d = 2 then v.toInt32.toInt64 else v
theorem xs_upd {f : Nat → Int32} {num : Nat → Int64} {n i : Nat} {x : Int32} (hf : ∀ j, j < n → (f j).toInt64 = num j) : ∀ j, j < n → (upd f i x j).toInt64 = vp_updL num i x.toInt64 j := by
  intro j hj
  unfold upd vp_updL
  split
  · rfl
  · exact hf j hj
theorem xs_updL {f : Nat → Int64} {num : Nat → Int64} {n i : Nat} {x : Int64} (hf : ∀ j, j < n → f j = num j) : ∀ j, j < n → vp_updL f i x j = vp_updL num i x j := by
  intro j hj
  unfold vp_updL
  split
  · rfl
  · exact hf j hj
theorem xs_cut0 {v : Int64} : xs_cut 0 v = (vp_nar .byte v.toInt32.toInt8.toInt32).toInt64 := if_pos rfl
theorem xs_cut1 {v : Int64} : xs_cut 1 v = (vp_nar .short v.toInt32.toInt16.toInt32).toInt64 := rfl
theorem xs_cut2 {v : Int64} : xs_cut 2 v = v.toInt32.toInt64 := rfl
theorem xs_cut3 {v : Int64} : xs_cut 3 v = v := rfl
