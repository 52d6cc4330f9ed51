set_option maxRecDepth 100000
/-! ghost heaps: what the heap holds, address by address; for the methods that make objects and change what hangs on them -/
abbrev hG : Type := Nat → Option va_E
def hu (h : hG) (a : Nat) (e : va_E) : hG := fun b => if b = a then some e else h b
theorem hu_s {h : hG} {a : Nat} {e : va_E} : hu h a e a = some e := if_pos rfl
theorem hu_n {h : hG} {a b : Nat} {e : va_E} (q : b ≠ a) : hu h a e b = h b := if_neg q
/-- the heap holds h, and its cells are of a kind A -/
def hp (D : va_G) (A : Nat → Prop) (h : hG) (H : Heap) : Prop := ∃ ws : va_W, va_P D vwCl ws H ∧ va_D A ws ∧ ∀ (a : Nat) (e : va_E), h a = some e ↔ ∃ k : Nat, ws[k]? = some (a, e)
theorem hp.at {D : va_G} {A : Nat → Prop} {h : hG} {H : Heap} (hh : hp D A h H) {a : Nat} {e : va_E} (ha : h a = some e) : va_at D vwCl (a, e) H := by
  obtain ⟨ws, hP, hD, hw⟩ := hh
  obtain ⟨k, hk⟩ := (hw a e).mp ha
  exact hP k _ hk
theorem hp.one {D : va_G} {A : Nat → Prop} {h : hG} {H : Heap} (hh : hp D A h H) {a : Nat} {e : va_E} (ha : h a = some e) : va_P D vwCl [(a, e)] H := fun k q hk => by
  have hz : k < 1 := (List.getElem?_eq_some_iff.mp hk).1
  obtain rfl : k = 0 := by omega
  cases hk
  exact hh.at ha
theorem hp.lt {D : va_G} {A : Nat → Prop} {h : hG} {H : Heap} (hh : hp D A h H) {a : Nat} {e : va_E} (ha : h a = some e) : a < H.size := (hh.at ha).lt
theorem hp.mem {D : va_G} {A : Nat → Prop} {h : hG} {H : Heap} (hh : hp D A h H) {a : Nat} {e : va_E} (ha : h a = some e) : A a := by
  obtain ⟨ws, hP, hD, hw⟩ := hh
  obtain ⟨k, hk⟩ := (hw a e).mp ha
  exact hD.2 k _ hk
theorem hne {h : hG} {a b : Nat} {e1 e2 : va_E} (h1 : h a = some e1) (h2 : h b = some e2) (hn : e1 ≠ e2) : a ≠ b := fun q => by
  subst q
  rw [h1] at h2
  exact hn (Option.some.inj h2)
theorem hn_ne {h : hG} {a b : Nat} {e1 : va_E} (h1 : h a = some e1) (h2 : h b = none) : a ≠ b := fun q => by
  subst q
  rw [h1] at h2
  cases h2
theorem hp_put {h : hG} {A : Nat → Prop} {ws : va_W} {k a : Nat} {e0 e1 : va_E} (hw : ∀ (a : Nat) (e : va_E), h a = some e ↔ ∃ k : Nat, ws[k]? = some (a, e)) (hD : va_D A ws) (hk : ws[k]? = some (a, e0)) : ∀ (b : Nat) (e : va_E), hu h a e1 b = some e ↔ ∃ j : Nat, (ws.set k (a, e1))[j]? = some (b, e) := by
  intro b e
  have hl := (List.getElem?_eq_some_iff.mp hk).1
  by_cases q : b = a
  · subst q
    rw [hu_s]
    constructor
    · intro h1
      cases h1
      exact ⟨k, by rw [List.getElem?_set_self hl]⟩
    · rintro ⟨j, hj⟩
      by_cases c : j = k
      · subst c
        rw [List.getElem?_set_self hl] at hj
        cases hj
        rfl
      · rw [List.getElem?_set_ne (Ne.symm c)] at hj
        exact absurd (hD.1 j k _ _ hj hk rfl) c
  · rw [hu_n q]
    constructor
    · intro h1
      obtain ⟨j, hj⟩ := (hw b e).mp h1
      refine ⟨j, ?_⟩
      rw [List.getElem?_set_ne ?_]
      · exact hj
      · rintro rfl
        rw [hk] at hj
        cases hj
        exact q rfl
    · rintro ⟨j, hj⟩
      by_cases c : j = k
      · subst c
        rw [List.getElem?_set_self hl] at hj
        cases hj
        exact absurd rfl q
      · rw [List.getElem?_set_ne (Ne.symm c)] at hj
        exact (hw b e).mpr ⟨j, hj⟩
theorem hp_push {h : hG} {A : Nat → Prop} {ws : va_W} {a : Nat} {e1 : va_E} (hw : ∀ (a : Nat) (e : va_E), h a = some e ↔ ∃ k : Nat, ws[k]? = some (a, e)) (hD : va_D A (ws ++ [(a, e1)])) : h a = none ∧ A a ∧ ∀ (b : Nat) (e : va_E), hu h a e1 b = some e ↔ ∃ j : Nat, (ws ++ [(a, e1)])[j]? = some (b, e) := by
  have hl : (ws ++ [(a, e1)])[ws.length]? = some (a, e1) := by simp
  have hn : h a = none := by
    cases c : h a with
    | none => rfl
    | some e0 =>
      obtain ⟨k, hk⟩ := (hw a e0).mp c
      have hlt := (List.getElem?_eq_some_iff.mp hk).1
      have := hD.1 k ws.length (a, e0) (a, e1) (by rw [List.getElem?_append_left hlt]; exact hk) hl rfl
      omega
  refine ⟨hn, hD.2 _ _ hl, fun b e => ?_⟩
  by_cases q : b = a
  · subst q
    rw [hu_s]
    constructor
    · intro h1
      cases h1
      exact ⟨_, hl⟩
    · rintro ⟨j, hj⟩
      have := hD.1 j ws.length _ _ hj hl rfl
      subst this
      rw [hl] at hj
      cases hj
      rfl
  · rw [hu_n q]
    constructor
    · intro h1
      obtain ⟨j, hj⟩ := (hw b e).mp h1
      exact ⟨j, by rw [List.getElem?_append_left (List.getElem?_eq_some_iff.mp hj).1]; exact hj⟩
    · rintro ⟨j, hj⟩
      by_cases c : j < ws.length
      · rw [List.getElem?_append_left c] at hj
        exact (hw b e).mpr ⟨j, hj⟩
      · have h3 := (List.getElem?_eq_some_iff.mp hj).1
        rw [List.length_append] at h3
        have h4 : j = ws.length := by simp at h3; omega
        subst h4
        rw [hl] at hj
        cases hj
        exact absurd rfl q
theorem va_RA_u {U : State} {c1 c2 : ClassId} {ty : FieldType} (h1 : va_RA U c1 ty) (h2 : va_RA U c2 ty) : c1 = c2 := by
  cases ty with
  | object C =>
    obtain ⟨_, _, _, _, _, e1⟩ := h1
    obtain ⟨_, _, _, _, _, e2⟩ := h2
    exact Option.some.inj (e1.symm.trans e2)
  | _ => exact Option.some.inj (Eq.trans (Eq.symm h1) h2)
/-- the calls through interfaces, the arrays over classes, what may be cast -/
abbrev yL_add : MethodName := ⟨"java/util/List", "add", "(Ljava/lang/Object;)Z"⟩
abbrev yL_addAll : MethodName := ⟨"java/util/List", "addAll", "(Ljava/util/Collection;)Z"⟩
abbrev yL_remove : MethodName := ⟨"java/util/List", "remove", "(I)Ljava/lang/Object;"⟩
abbrev yL_clear : MethodName := ⟨"java/util/List", "clear", "()V"⟩
abbrev yL_iterator : MethodName := ⟨"java/util/List", "iterator", "()Ljava/util/Iterator;"⟩
abbrev yC_toArray : MethodName := ⟨"java/util/Collection", "toArray", "()[Ljava/lang/Object;"⟩
abbrev yI_hasNext : MethodName := ⟨"java/util/Iterator", "hasNext", "()Z"⟩
abbrev yI_next : MethodName := ⟨"java/util/Iterator", "next", "()Ljava/lang/Object;"⟩
def hf_l : List (String × MethodName × MethodName) := [("java/util/ArrayList", yL_add, yJ2_add), ("java/util/ArrayList", yL_addAll, yJ2_addAll), ("java/util/ArrayList", yL_remove, yJ2_remove), ("java/util/ArrayList", yL_clear, yJ2_clear), ("java/util/ArrayList", yL_iterator, yJ2_iterator), ("java/util/ArrayList", yC_toArray, yJ2_toArray), ("java/util/ArrayList$Itr", yI_hasNext, yJ13_hasNext), ("java/util/ArrayList$Itr", yI_next, yJ13_next)]
def hf (U : State) : Prop := ∀ q ∈ hf_l, va_Fw q.1 q.2.1 q.2.2 U
theorem hf_ok : ∀ q ∈ hf_l, q.2.1.cls ≠ "java/lang/invoke/MethodHandle" ∧ q.2.1.cls ≠ "java/lang/invoke/VarHandle" := by decide
theorem hf.moved {u U : State} (h : hf u) (hvm : u.vm.Alike U.vm) : hf U := fun q hq => va_Fw.moved (hf_ok q hq) hvm (h q hq)
def ho (U : State) : Prop := va_AO "java/lang/Object" U ∧ va_AO "QuotedRiver$Slot" U ∧ va_AO "QuotedRiver$Rivers" U
theorem ho.moved {u U : State} (h : ho u) (hvm : u.vm.Alike U.vm) : ho U := ⟨va_AO.moved hvm h.1, va_AO.moved hvm h.2.1, va_AO.moved hvm h.2.2⟩
def hc_l : List (String × String) := [("QuotedRiver$Reach", "java/lang/Object"), ("QuotedRiver$Join", "java/lang/Object"), ("QuotedRiver$Rain", "java/lang/Object"), ("QuotedRiver$Act", "java/lang/Object"), ("java/lang/NegativeArraySizeException", "java/lang/NegativeArraySizeException"), ("java/lang/NullPointerException", "java/lang/NullPointerException"), ("java/lang/ArrayIndexOutOfBoundsException", "java/lang/ArrayIndexOutOfBoundsException"), ("java/lang/ClassCastException", "java/lang/ClassCastException"), ("java/lang/ArrayIndexOutOfBoundsException", "java/lang/IndexOutOfBoundsException"), ("QuotedRiver$Fault", "QuotedRiver$Fault"), ("java/lang/RuntimeException", "java/lang/Throwable")]
def hcs (U : State) : Prop := ∀ q ∈ hc_l, va_Nw (.castable q.1 q.2) U
/-- what can't be cast to what -/
def hn_l : List (String × String) := [("java/lang/ArrayIndexOutOfBoundsException", "java/lang/NullPointerException"), ("java/lang/ArrayIndexOutOfBoundsException", "java/lang/ClassCastException"), ("java/lang/NullPointerException", "java/lang/ClassCastException")]
def hd_l : List MethodName := [⟨"java/lang/RuntimeException", "<init>", "()V"⟩, ⟨"java/lang/RuntimeException", "<init>", "(Ljava/lang/String;)V"⟩, ⟨"java/lang/IndexOutOfBoundsException", "<init>", "(Ljava/lang/String;)V"⟩, ⟨"java/lang/Exception", "<init>", "()V"⟩, ⟨"java/lang/Exception", "<init>", "(Ljava/lang/String;)V"⟩, ⟨"java/lang/Throwable", "<init>", "()V"⟩, ⟨"java/lang/Throwable", "<init>", "(Ljava/lang/String;)V"⟩, ⟨"java/lang/Throwable", "fillInStackTrace", "()Ljava/lang/Throwable;"⟩]
def hnc (U : State) : Prop := (∀ q ∈ hn_l, va_Nc q.1 q.2 U) ∧ ∀ y ∈ hd_l, va_Nw (.declares y) U
/-- the texts' addresses stand among dE's -/
def tgE (dE : Nat → Nat) : tx_G := (fun i => dE (10 + i), fun i => dE (30 + i))
/-- what holds at every start of a method of these -/
def hJ (D : va_G) (kk : Nat → Nat) (dE : Nat → Nat) (A : Nat → Prop) (U : State) : Prop :=
  va_K D vwCl (xw_tys kk) U ∧ xn U ∧ xf U ∧ hf U ∧ xc U ∧ ho U ∧ hcs U ∧ (∀ q : Nat, U.heap.size ≤ q → A q) ∧ va_Z "java/util/ArrayList" "DEFAULTCAPACITY_EMPTY_ELEMENTDATA" "[Ljava/lang/Object;" (.ref (dE 0)) A U U.heap ∧ va_Mi "[Ljava/lang/Object;" (dE 1) U ∧ va_Dc U ∧ tx_S (tgE dE) A U U.heap ∧ vx_Zq Bundle.tN "UNASSIGNED_STACK" Bundle.steD A U U.heap ∧ vx_Zq Bundle.tN "SUPPRESSED_SENTINEL" Bundle.listD A U U.heap ∧ hnc U
theorem hJ.moved {D : va_G} {kk : Nat → Nat} {dE : Nat → Nat} {A : Nat → Prop} {s U : State} {H : Heap} {locs : List Loc} (h : hJ D kk dE A s) (hW : s.WarmedH U.vm) (hH : U.heap = H) (hS : va_S A s.heap H locs) : hJ D kk dE A U := by
  obtain ⟨h1, h2, h3, h4, h5, h6, h7, h8, h9, h10, h11, h12, h13, h14, h15⟩ := h
  refine ⟨va_K.moved hW.alike h1, h2.warm hW, h3.moved hW.alike, h4.moved hW.alike, h5.moved hW.alike, h6.moved hW.alike, fun q hq => va_Nw.warmC hW (h7 q hq), fun q hq => h8 q ?_, ?_, va_Mi.moved hW.alike h10, va_Dc.moved hW.alike h11, ?_, ?_, ?_, ⟨fun q hq => va_Nc.moved hW.alike (h15.1 q hq), fun y hy => va_Nw.warmD hW (h15.2 y hy)⟩⟩
  · rw [hH] at hq
    exact Nat.le_trans hS.1 hq
  · rw [hH]
    exact (va_Z.moved hW.alike h9).kept hS.2.1
  · rw [hH]
    exact (h12.moved hW).kept hS.2.1
  · rw [hH]
    exact (vx_Zq.moved hW.alike h13).kept hS.2.1
  · rw [hH]
    exact (vx_Zq.moved hW.alike h14).kept hS.2.1
theorem hJ.calling {D : va_G} {kk : Nat → Nat} {dE : Nat → Nat} {A : Nat → Prop} {U : State} {g : JFrame} {mk : MethodId} {a : Array Value} (h : hJ D kk dE A U) : hJ D kk dE A (U.calling g mk a) := by
  obtain ⟨h1, h2, h3, h4, h5, h6, h7, h8, h9, h10, h11, h12, h13, h14, h15⟩ := h
  exact ⟨va_K.moved (u := U) (U := U.calling g mk a) (Vm.Alike.refl U.vm) h1, h2.vm rfl, h3.moved (u := U) (U := U.calling g mk a) (Vm.Alike.refl U.vm), h4.moved (u := U) (U := U.calling g mk a) (Vm.Alike.refl U.vm), h5.moved (u := U) (U := U.calling g mk a) (Vm.Alike.refl U.vm), h6.moved (u := U) (U := U.calling g mk a) (Vm.Alike.refl U.vm), fun q hq => va_Nw.same rfl rfl (h7 q hq), h8, va_Z.moved (u := U) (U := U.calling g mk a) (Vm.Alike.refl U.vm) h9, va_Mi.moved (u := U) (U := U.calling g mk a) (Vm.Alike.refl U.vm) h10, va_Dc.moved (u := U) (U := U.calling g mk a) (Vm.Alike.refl U.vm) h11, h12.calling, vx_Zq.moved (u := U) (U := U.calling g mk a) (Vm.Alike.refl U.vm) h13, vx_Zq.moved (u := U) (U := U.calling g mk a) (Vm.Alike.refl U.vm) h14, ⟨fun q hq => va_Nc.moved (u := U) (U := U.calling g mk a) (Vm.Alike.refl U.vm) (h15.1 q hq), fun y hy => va_Nw.same rfl rfl (h15.2 y hy)⟩⟩
def hw_I (E : gE) (D : va_G) (A : Nat → Prop) (h : hG) : Heap → List Loc → Prop := fun H locs => hp D A h H ∧ va_S A (eS E).heap H locs
def hC (E : gE) (cc : ByteArray) (nL fr lc mc ms : Nat) (RX : String) (D : va_G) (kk : Nat → Nat) (dE : Nat → Nat) (A : Nat → Prop) : Prop :=
  ga_C E cc ∧ (eC E).maxLocals = nL ∧ (eS E).vm.findClass RX = some (eM E).cls ∧ (∀ w ∈ lw_all, w.before (eA E) (eS E) = true) ∧ hJ D kk dE A (eS E) ∧ eR E = ({ frames := fr, cells := mc, slots := ms, locals := lc } : Room)
def hw_Pc (D : va_G) (kk : Nat → Nat) (dE : Nat → Nat) (A : Nat → Prop) (h : hG) (as : List Value) : Array Value → State → Prop := va_Pc as (fun U => hp D A h U.heap ∧ hJ D kk dE A U)
def hw_Qc (D : va_G) (A : Nat → Prop) (post : Option Value → hG → Prop) : Array Value → State → Outcome → State → Prop := fun _ st oc t => (∃ (v : Option Value) (h2 : hG), oc = .returned v ∧ post v h2 ∧ hp D A h2 t.heap) ∧ va_F A st t
theorem lw_I {own : String} {y : MethodName} {b : ByteArray} {L : Nat} (h5 : Cond.code y b L none ∈ lw_all) : GoodIn lw_all (ws_ y b L none) := lw_meth h5
section HW
variable {E : gE} {cc : ByteArray} {nL fr lc mc ms : Nat} {RX : String} {D : va_G} {kk : Nat → Nat} {dE : Nat → Nat} {A : Nat → Prop} {h : hG} {ka na pc : Nat} {lo : List (Option Value)} {st : List Value} {post : Option Value → hG → Prop}
theorem hC.c (C : hC E cc nL fr lc mc ms RX D kk dE A) : ga_C E cc := C.1
theorem hC.ml (C : hC E cc nL fr lc mc ms RX D kk dE A) : (eC E).maxLocals = nL := C.2.1
theorem hC.ow (C : hC E cc nL fr lc mc ms RX D kk dE A) : (eS E).vm.findClass RX = some (eM E).cls := C.2.2.1
theorem hC.ts (C : hC E cc nL fr lc mc ms RX D kk dE A) : ∀ w ∈ lw_all, w.before (eA E) (eS E) = true := C.2.2.2.1
theorem hC.j (C : hC E cc nL fr lc mc ms RX D kk dE A) : hJ D kk dE A (eS E) := C.2.2.2.2.1
theorem hC.k (C : hC E cc nL fr lc mc ms RX D kk dE A) : va_K D vwCl (xw_tys kk) (eS E) := C.2.2.2.2.1.1
theorem hC.n (C : hC E cc nL fr lc mc ms RX D kk dE A) : xn (eS E) := C.2.2.2.2.1.2.1
theorem hC.f (C : hC E cc nL fr lc mc ms RX D kk dE A) : hf (eS E) := C.2.2.2.2.1.2.2.2.1
theorem hC.o (C : hC E cc nL fr lc mc ms RX D kk dE A) : ho (eS E) := C.2.2.2.2.1.2.2.2.2.2.1
theorem hC.s (C : hC E cc nL fr lc mc ms RX D kk dE A) : hcs (eS E) := C.2.2.2.2.1.2.2.2.2.2.2.1
theorem hC.a (C : hC E cc nL fr lc mc ms RX D kk dE A) : ∀ q : Nat, (eS E).heap.size ≤ q → A q := C.2.2.2.2.1.2.2.2.2.2.2.2.1
theorem hC.z (C : hC E cc nL fr lc mc ms RX D kk dE A) : va_Z "java/util/ArrayList" "DEFAULTCAPACITY_EMPTY_ELEMENTDATA" "[Ljava/lang/Object;" (.ref (dE 0)) A (eS E) (eS E).heap := C.2.2.2.2.1.2.2.2.2.2.2.2.2.1
theorem hC.m (C : hC E cc nL fr lc mc ms RX D kk dE A) : va_Mi "[Ljava/lang/Object;" (dE 1) (eS E) := C.2.2.2.2.1.2.2.2.2.2.2.2.2.2.1
theorem hC.g (C : hC E cc nL fr lc mc ms RX D kk dE A) : va_Dc (eS E) := C.2.2.2.2.1.2.2.2.2.2.2.2.2.2.2.1
theorem hC.t (C : hC E cc nL fr lc mc ms RX D kk dE A) : tx_S (tgE dE) A (eS E) (eS E).heap := C.2.2.2.2.1.2.2.2.2.2.2.2.2.2.2.2.1
theorem hC.u (C : hC E cc nL fr lc mc ms RX D kk dE A) : vx_Zq Bundle.tN "UNASSIGNED_STACK" Bundle.steD A (eS E) (eS E).heap := C.2.2.2.2.1.2.2.2.2.2.2.2.2.2.2.2.2.1
theorem hC.v (C : hC E cc nL fr lc mc ms RX D kk dE A) : vx_Zq Bundle.tN "SUPPRESSED_SENTINEL" Bundle.listD A (eS E) (eS E).heap := C.2.2.2.2.1.2.2.2.2.2.2.2.2.2.2.2.2.2.1
theorem hC.nc (C : hC E cc nL fr lc mc ms RX D kk dE A) : hnc (eS E) := C.2.2.2.2.1.2.2.2.2.2.2.2.2.2.2.2.2.2.2
theorem hC.rm (C : hC E cc nL fr lc mc ms RX D kk dE A) : eR E = ({ frames := fr, cells := mc, slots := ms, locals := lc } : Room) := C.2.2.2.2.2
theorem hw_one {a : Nat} {e : va_E} (ha : h a = some e) : ∀ H locs, hw_I E D A h H locs → va_P D vwCl [(a, e)] H := fun H locs hI => hI.1.one ha
theorem hw_S : ∀ H locs, hw_I E D A h H locs → va_S A (eS E).heap H locs := fun H locs hI => hI.2
/-- a contract out of its walk -/
theorem hw_of {l : Launch} {y : MethodName} {maxL : Nat} {ret : Option FieldType} {as : List Value} (hy : plainName y.cls = true) (hcls : y.cls = RX) (hlen : (lg_sl as).length ≤ maxL) {lo : List (Option Value)} (hlo : ga_ps 0 lo = lv_args 0 as)
    (body : ∀ E : gE, hC E cc maxL fr lc mc ms RX D kk dE A → (eT E).name = y.name → (eT E).sig.returnType = ret → (eT E).locks = false → eQ E = MQ (eB E) (hw_Qc D A post) (eA E) (eS E) mc ms A → ga_W E maxL (hw_I E D A h) 0 0 0 lo []) :
    Met l y (ws_ y cc maxL ret) ({ frames := fr, cells := mc, slots := ms, locals := lc } : Room) (hw_Pc D kk dE A h as) (hw_Qc D A post) mc ms A := by
  refine Met.ofW (cc := cc) (maxL := maxL) (ret := ret) hy rfl ?_
  intro p e s m args below meth c s₁ B hml hv
  obtain ⟨rfl, hP, hJ0⟩ := hv
  have hts := atoms_spec (ws := ws_ y cc maxL ret) B.pre
  have hts : ∀ w ∈ lw_all, w.before _ s = true := fun w h => hts w (List.mem_cons_of_mem _ h)
  have hown : s.vm.findClass RX = some m.cls := by rw [← hcls]; exact findClass_of_methodNamed B.named
  have hin : meth.name = y.name := (name_of_methodNamed B.named B.method).1
  have hl := lv_entry as (n := maxL) hlen
  rw [lg_entry_eq]
  have K := body (p, l, e, (headSpec (ws_ y cc maxL ret) ({ frames := fr, cells := mc, slots := ms, locals := lc } : Room)).room, s, m, as.toArray, below, meth, c, MQ below (hw_Qc D A post) as.toArray s mc ms A) ⟨⟨B.exec, B.bytes⟩, hml, hown, hts, hJ0, rfl⟩ hin B.returns B.notSynchronized rfl
  exact K s.heap [] _ ⟨hP, va_S.rf⟩ ⟨hl.1, hl.2.1, fun i v h => hl.2.2 (i, v) (by rw [← hlo]; exact (ga_ps_mem lo 0 i v).mpr ⟨i, by omega, h⟩)⟩
theorem hw_iret {v : Int32} {rt : FieldType} (C : hC E cc nL fr lc mc ms RX D kk dE A) (hr : (eT E).sig.returnType = some rt) (hlk : (eT E).locks = false) (hq : eQ E = MQ (eB E) (hw_Qc D A post) (eA E) (eS E) mc ms A) {w : Int32} (hn : narrow rt (.int v) = .int w) (hka : ka ≤ mc) (hna : na ≤ ms) (hp0 : post (some (.int w)) h) (hd : decode cc pc = .ok (.ireturn, 1)) : ga_W E nL (hw_I E D A h) ka na pc lo [.int v] := by
  refine ga_widen hka hna ?_
  intro H locs ls hI hL
  rw [hq]
  exact ga_zret C.c.1 C.c.2 hr hn (fun t ht hW => ⟨⟨_, h, rfl, hp0, by rw [ht]; exact hI.1⟩, hI.2.F ht⟩) hI.2.2.2 hd hlk
theorem hw_vret (C : hC E cc nL fr lc mc ms RX D kk dE A) (hr : (eT E).sig.returnType = none) (hlk : (eT E).locks = false) (hq : eQ E = MQ (eB E) (hw_Qc D A post) (eA E) (eS E) mc ms A) (hka : ka ≤ mc) (hna : na ≤ ms) (hp0 : post none h) (hd : decode cc pc = .ok (.return_, 1)) : ga_W E nL (hw_I E D A h) ka na pc lo [] := by
  refine ga_widen hka hna ?_
  intro H locs ls hI hL
  rw [hq]
  exact W.vret C.c.1 C.c.2 hr (fun t ht hW => ⟨⟨_, h, rfl, hp0, by rw [ht]; exact hI.1⟩, hI.2.F ht⟩) hI.2.2.2 hd hlk
theorem hw_aret {v : Value} {rt : FieldType} (C : hC E cc nL fr lc mc ms RX D kk dE A) (hr : (eT E).sig.returnType = some rt) (hrt : (∃ n, rt = .object n) ∨ ∃ t, rt = .array t) (hv : v = .null ∨ ∃ a, v = .ref a) (hlk : (eT E).locks = false) (hq : eQ E = MQ (eB E) (hw_Qc D A post) (eA E) (eS E) mc ms A) (hka : ka ≤ mc) (hna : na ≤ ms) (hp0 : post (some v) h) (hd : decode cc pc = .ok (.areturn, 1)) : ga_W E nL (hw_I E D A h) ka na pc lo [v] := by
  refine ga_widen hka hna ?_
  intro H locs ls hI hL
  rw [hq]
  exact W.aret C.c.1 C.c.2 hr hrt hv (fun t ht hW => ⟨⟨_, h, rfl, hp0, by rw [ht]; exact hI.1⟩, hI.2.F ht⟩) hI.2.2.2 hd hlk
/-- putfield -/
theorem hh_put (pc2 k : Nat) (C : hC E cc nL fr lc mc ms RX D kk dE A) {ref Cn : String} {T : u_T} {N ci idx a : Nat} {fs fs2 : List Value} {v : Value} {ty : FieldType} {ty0 : Nat → FieldType} (hty : ∀ k, k < N → parseFieldDescriptor (T k).2.2.1 = some (ty0 k)) (hnm : ∀ a, a < N → ∀ b, b < N → a ≠ b → (T a).2.1 ≠ (T b).2.1) (hin : ∀ w ∈ u_ws Cn T N, w ∈ lw_all) (ha : h a = some (.inr (ci, fs))) (hcl : vwCl[ci]? = some (Cn, T, N)) (hk : k < N) (hl : Cond.fieldLink RX idx ref (T k).2.1 (T k).2.2.1 ∈ lw_all) (hs : ∀ x, (eS E).fieldFound? (T k).1 (T k).2.1 (T k).2.2.1 = some x → (eS E).fieldFound? ref (T k).2.1 (T k).2.2.1 = some x) (hfin : (T k).2.2.2 = false) (hd1 : parseFieldDescriptor (T k).2.2.1 = some ty) (hn : narrow ty v = v) (hfit : fits ty v = true) (hlen : k < fs.length) (hset : fs.set k v = fs2) (hd : decode cc pc = .ok (.putfield idx, 3)) (e : pc + 3 = pc2)
    (k1 : ∀ h2, h2 = hu h a (.inr (ci, fs2)) → ga_W E nL (hw_I E D A h2) ka na pc2 lo st) : ga_W E nL (hw_I E D A h) ka na pc lo (v :: .ref a :: st) := by
  subst e
  subst hset
  intro H locs ls hI hL
  obtain ⟨⟨ws, hP, hD, hw⟩, hS⟩ := hI
  obtain ⟨q0, hq⟩ := (hw a _).mp ha
  exact va_put (D := D) C.c.1 C.c.2 C.ts hin ty0 hty hnm C.ow C.k hP hD hS q0 hq hcl k hk (C.ts _ hl) hs hfin hd1 hn hfit hlen hd (fun H1 locs1 hP1 hD1 hS1 => k1 _ rfl H1 locs1 ls ⟨⟨_, hP1, hD1, hp_put hw hD hq⟩, hS1⟩ hL)
theorem hh_putF (pc2 k : Nat) (C : hC E cc nL fr lc mc ms RX D kk dE A) (hin0 : (eT E).name = "<init>") {ref Cn : String} {T : u_T} {N ci idx a : Nat} {fs fs2 : List Value} {v : Value} {ty : FieldType} {ty0 : Nat → FieldType} (hty : ∀ k, k < N → parseFieldDescriptor (T k).2.2.1 = some (ty0 k)) (hnm : ∀ a, a < N → ∀ b, b < N → a ≠ b → (T a).2.1 ≠ (T b).2.1) (hin : ∀ w ∈ u_ws Cn T N, w ∈ lw_all) (ha : h a = some (.inr (ci, fs))) (hcl : vwCl[ci]? = some (Cn, T, N)) (hk : k < N) (hl : Cond.fieldLink RX idx ref (T k).2.1 (T k).2.2.1 ∈ lw_all) (hs : ∀ x, (eS E).fieldFound? (T k).1 (T k).2.1 (T k).2.2.1 = some x → (eS E).fieldFound? ref (T k).2.1 (T k).2.2.1 = some x) (hfin : (T k).2.2.2 = true) (hdc : (T k).1 = RX) (hd1 : parseFieldDescriptor (T k).2.2.1 = some ty) (hn : narrow ty v = v) (hfit : fits ty v = true) (hlen : k < fs.length) (hset : fs.set k v = fs2) (hd : decode cc pc = .ok (.putfield idx, 3)) (e : pc + 3 = pc2)
    (k1 : ∀ h2, h2 = hu h a (.inr (ci, fs2)) → ga_W E nL (hw_I E D A h2) ka na pc2 lo st) : ga_W E nL (hw_I E D A h) ka na pc lo (v :: .ref a :: st) := by
  subst e
  subst hset
  intro H locs ls hI hL
  obtain ⟨⟨ws, hP, hD, hw⟩, hS⟩ := hI
  obtain ⟨q0, hq⟩ := (hw a _).mp ha
  exact va_putF (D := D) C.c.1 C.c.2 C.ts hin ty0 hty hnm C.ow C.k hP hD hS q0 hq hcl k hk (C.ts _ hl) hs hfin hin0 hdc hd1 hn hfit hlen hd (fun H1 locs1 hP1 hD1 hS1 => k1 _ rfl H1 locs1 ls ⟨⟨_, hP1, hD1, hp_put hw hD hq⟩, hS1⟩ hL)
theorem hh_putN (pc2 k : Nat) (C : hC E cc nL fr lc mc ms RX D kk dE A) {ref Cn host : String} {T : u_T} {N ci idx a : Nat} {fs fs2 : List Value} {v : Value} {ty : FieldType} {ty0 : Nat → FieldType} (hty : ∀ k, k < N → parseFieldDescriptor (T k).2.2.1 = some (ty0 k)) (hnm : ∀ a, a < N → ∀ b, b < N → a ≠ b → (T a).2.1 ≠ (T b).2.1) (hin : ∀ w ∈ u_ws Cn T N, w ∈ lw_all) (ha : h a = some (.inr (ci, fs))) (hcl : vwCl[ci]? = some (Cn, T, N)) (hk : k < N) (hl : Cond.fieldLinkNest RX idx ref (T k).2.1 (T k).2.2.1 host ∈ lw_tbl) (hs : ∀ x, (eS E).fieldFound? (T k).1 (T k).2.1 (T k).2.2.1 = some x → (eS E).fieldFound? ref (T k).2.1 (T k).2.2.1 = some x) (hfin : (T k).2.2.2 = false) (hd1 : parseFieldDescriptor (T k).2.2.1 = some ty) (hn : narrow ty v = v) (hfit : fits ty v = true) (hlen : k < fs.length) (hset : fs.set k v = fs2) (hd : decode cc pc = .ok (.putfield idx, 3)) (e : pc + 3 = pc2)
    (k1 : ∀ h2, h2 = hu h a (.inr (ci, fs2)) → ga_W E nL (hw_I E D A h2) ka na pc2 lo st) : ga_W E nL (hw_I E D A h) ka na pc lo (v :: .ref a :: st) := by
  subst e
  subst hset
  intro H locs ls hI hL
  obtain ⟨⟨ws, hP, hD, hw⟩, hS⟩ := hI
  obtain ⟨q0, hq⟩ := (hw a _).mp ha
  exact va_putN (D := D) C.c.1 C.c.2 C.ts hin ty0 hty hnm C.ow C.k hP hD hS q0 hq hcl k hk (C.n.use hl rfl) hs hfin hd1 hn hfit hlen hd (fun H1 locs1 hP1 hD1 hS1 => k1 _ rfl H1 locs1 ls ⟨⟨_, hP1, hD1, hp_put hw hD hq⟩, hS1⟩ hL)
/-- new objects and arrays -/
theorem hh_new (pc2 : Nat) (C : hC E cc nL fr lc mc ms RX D kk dE A) {Cn : String} {T : u_T} {N ci idx : Nat} (ty : Nat → FieldType) (hty : ∀ k, k < N → parseFieldDescriptor (T k).2.2.1 = some (ty k)) (hin : ∀ w ∈ u_ws Cn T N, w ∈ lw_all) (hcl : Cond.classLink RX idx Cn ∈ lw_all) (hinst : Cond.instantiable Cn N ∈ lw_all) (hini : Cond.initialized Cn ∈ lw_all) (hc : vwCl[ci]? = some (Cn, T, N)) {fs : List Value} (hfs : ∀ j, j < N → defaultValue (ty j) = vp_V fs j) (hka : ka + 1 ≤ mc) (hna : na + N ≤ ms) (hd : decode cc pc = .ok (.new idx, 3)) (e : pc + 3 = pc2)
    (k1 : ∀ q h2, h q = none → A q → h2 = hu h q (.inr (ci, fs)) → ga_W E nL (hw_I E D A h2) (ka + 1) (na + N) pc2 lo (.ref q :: st)) : ga_W E nL (hw_I E D A h) ka na pc lo st := by
  subst e
  intro H locs ls hI hL
  obtain ⟨⟨ws, hP, hD, hw⟩, hS⟩ := hI
  refine va_new (D := D) C.c.1 C.c.2 C.ts hin ty hty C.ow (C.ts _ hcl) (C.ts _ hinst) (C.ts _ hini) C.k hP hD hS C.a hc hfs (by rw [C.rm]; exact hka) (by rw [C.rm]; exact hna) hd (fun q H1 hP1 hD1 hS1 => ?_)
  have hx := hp_push hw hD1
  exact k1 q _ hx.1 hx.2.1 rfl H1 locs ls ⟨⟨_, hP1, hD1, hx.2.2⟩, hS1⟩ hL
theorem hh_newa (pc2 t0 : Nat) (C : hC E cc nL fr lc mc ms RX D kk dE A) {atype : ArrayType} {ty : FieldType} {cA : ClassId} (harr : Cond.arrayClass (newarray.typeOf atype) ∈ lw_all) (hty : newarray.typeOf atype = ty) (ht : (xw_tys kk)[t0]? = some (cA, ty)) {n : Int32} {N' : Nat} {a0 : vp_A} (ha : ∀ cA : ClassId, vp_cell cA a0 = arrV cA N' (fun _ => defaultValue ty)) (hn : ¬ n < 0) (hN : n.toNatClampNeg = N') (hbytes : N' * componentBytes ty ≤ 536870912) (hka : ka + 1 ≤ mc) (hna : na + N' ≤ ms) (hd : decode cc pc = .ok (.newarray atype, 2)) (e : pc + 2 = pc2)
    (k1 : ∀ q h2, h q = none → A q → h2 = hu h q (.inl (cA, a0)) → ga_W E nL (hw_I E D A h2) (ka + 1) (na + N') pc2 lo (.ref q :: st)) : ga_W E nL (hw_I E D A h) ka na pc lo (.int n :: st) := by
  subst e
  intro H locs ls hI hL
  obtain ⟨⟨ws, hP, hD, hw⟩, hS⟩ := hI
  refine va_newa (D := D) C.c.1 C.c.2 (C.ts _ harr) hty C.k hP hD hS C.a ha hn hN hbytes (by rw [C.rm]; exact hka) (by rw [C.rm]; exact hna) hd (fun q c2 H1 hK1 hP1 hD1 hS1 => ?_)
  have e1 : c2 = cA := va_RA_u (hK1.2 (xw_tys kk).length (c2, ty) (by simp)).2 (C.k.2 t0 _ ht).2
  subst e1
  have hx := hp_push hw hD1
  exact k1 q _ hx.1 hx.2.1 rfl H1 locs ls ⟨⟨_, hP1, hD1, hx.2.2⟩, hS1⟩ hL
theorem hh_newq (pc2 t0 : Nat) (C : hC E cc nL fr lc mc ms RX D kk dE A) {Cn : String} {cA : ClassId} {idx : Nat} (hcl : Cond.classLink RX idx Cn ∈ lw_all) (hover : va_AO Cn (eS E)) (ht : (xw_tys kk)[t0]? = some (cA, .object Cn)) {n : Int32} {N' : Nat} (hn : ¬ n < 0) (hN : n.toNatClampNeg = N') (hbytes : N' * 4 ≤ 536870912) (hka : ka + 1 ≤ mc) (hna : na + N' ≤ ms) (hd : decode cc pc = .ok (.anewarray idx, 3)) (e : pc + 3 = pc2)
    (k1 : ∀ q h2, h q = none → A q → h2 = hu h q (.inl (cA, N', .inr (.inr (.inr (.inr (fun _ => none)))))) → ga_W E nL (hw_I E D A h2) (ka + 1) (na + N') pc2 lo (.ref q :: st)) : ga_W E nL (hw_I E D A h) ka na pc lo (.int n :: st) := by
  subst e
  intro H locs ls hI hL
  obtain ⟨⟨ws, hP, hD, hw⟩, hS⟩ := hI
  refine va_newq (D := D) C.c.1 C.c.2 C.ow (C.ts _ hcl) hover C.k hP hD hS C.a hn hN hbytes (by rw [C.rm]; exact hka) (by rw [C.rm]; exact hna) hd (fun q c2 H1 hK1 hP1 hD1 hS1 => ?_)
  have e1 : c2 = cA := va_RA_u (hK1.2 (xw_tys kk).length (c2, .object Cn) (by simp)).2 (C.k.2 t0 _ ht).2
  subst e1
  have hx := hp_push hw hD1
  exact k1 q _ hx.1 hx.2.1 rfl H1 locs ls ⟨⟨_, hP1, hD1, hx.2.2⟩, hS1⟩ hL
/-- stores into arrays -/
theorem hh_iast (pc2 t0 : Nat) (C : hC E cc nL fr lc mc ms RX D kk dE A) {a n : Nat} {cA : ClassId} {f : Nat → Int32} {i x : Int32} (ha : h a = some (.inl (cA, n, .inl f))) (ht : (xw_tys kk)[t0]? = some (cA, .int)) (hi : vp_in i n) (hd : decode cc pc = .ok (.iastore, 1)) (e : pc + 1 = pc2)
    (k1 : ∀ h2, h2 = hu h a (.inl (cA, n, .inl (upd f i.toNatClampNeg x))) → ga_W E nL (hw_I E D A h2) ka na pc2 lo st) : ga_W E nL (hw_I E D A h) ka na pc lo (.int x :: .int i :: .ref a :: st) := by
  subst e
  intro H locs ls hI hL
  obtain ⟨⟨ws, hP, hD, hw⟩, hS⟩ := hI
  obtain ⟨q0, hq⟩ := (hw a _).mp ha
  exact va_iast C.c.1 C.c.2 C.k hP hD hS q0 t0 hq ht hi hd (fun H1 locs1 hP1 hD1 hS1 => k1 _ rfl H1 locs1 ls ⟨⟨_, hP1, hD1, hp_put hw hD hq⟩, hS1⟩ hL)
theorem hh_bast (pc2 t0 : Nat) (C : hC E cc nL fr lc mc ms RX D kk dE A) {a n : Nat} {cA : ClassId} {f : Nat → Int32} {i x : Int32} (ha : h a = some (.inl (cA, n, .inl f))) (ht : (xw_tys kk)[t0]? = some (cA, .byte)) (hi : vp_in i n) (hd : decode cc pc = .ok (.bastore, 1)) (e : pc + 1 = pc2)
    (k1 : ∀ h2, h2 = hu h a (.inl (cA, n, .inl (upd f i.toNatClampNeg (vp_nar .byte x)))) → ga_W E nL (hw_I E D A h2) ka na pc2 lo st) : ga_W E nL (hw_I E D A h) ka na pc lo (.int x :: .int i :: .ref a :: st) := by
  subst e
  intro H locs ls hI hL
  obtain ⟨⟨ws, hP, hD, hw⟩, hS⟩ := hI
  obtain ⟨q0, hq⟩ := (hw a _).mp ha
  exact va_bast C.c.1 C.c.2 C.k hP hD hS q0 t0 hq ht hi hd (fun H1 locs1 hP1 hD1 hS1 => k1 _ rfl H1 locs1 ls ⟨⟨_, hP1, hD1, hp_put hw hD hq⟩, hS1⟩ hL)
theorem hh_sast (pc2 t0 : Nat) (C : hC E cc nL fr lc mc ms RX D kk dE A) {a n : Nat} {cA : ClassId} {f : Nat → Int32} {i x : Int32} (ha : h a = some (.inl (cA, n, .inl f))) (ht : (xw_tys kk)[t0]? = some (cA, .short)) (hi : vp_in i n) (hd : decode cc pc = .ok (.sastore, 1)) (e : pc + 1 = pc2)
    (k1 : ∀ h2, h2 = hu h a (.inl (cA, n, .inl (upd f i.toNatClampNeg (vp_nar .short x)))) → ga_W E nL (hw_I E D A h2) ka na pc2 lo st) : ga_W E nL (hw_I E D A h) ka na pc lo (.int x :: .int i :: .ref a :: st) := by
  subst e
  intro H locs ls hI hL
  obtain ⟨⟨ws, hP, hD, hw⟩, hS⟩ := hI
  obtain ⟨q0, hq⟩ := (hw a _).mp ha
  exact va_sast C.c.1 C.c.2 C.k hP hD hS q0 t0 hq ht hi hd (fun H1 locs1 hP1 hD1 hS1 => k1 _ rfl H1 locs1 ls ⟨⟨_, hP1, hD1, hp_put hw hD hq⟩, hS1⟩ hL)
theorem hh_last (pc2 t0 : Nat) (C : hC E cc nL fr lc mc ms RX D kk dE A) {a n : Nat} {cA : ClassId} {f : Nat → Int64} {i : Int32} {x : Int64} (ha : h a = some (.inl (cA, n, .inr (.inl f)))) (ht : (xw_tys kk)[t0]? = some (cA, .long)) (hi : vp_in i n) (hd : decode cc pc = .ok (.lastore, 1)) (e : pc + 1 = pc2)
    (k1 : ∀ h2, h2 = hu h a (.inl (cA, n, .inr (.inl (vp_updL f i.toNatClampNeg x)))) → ga_W E nL (hw_I E D A h2) ka na pc2 lo st) : ga_W E nL (hw_I E D A h) ka na pc lo (.long x :: .int i :: .ref a :: st) := by
  subst e
  intro H locs ls hI hL
  obtain ⟨⟨ws, hP, hD, hw⟩, hS⟩ := hI
  obtain ⟨q0, hq⟩ := (hw a _).mp ha
  exact va_last C.c.1 C.c.2 C.k hP hD hS q0 t0 hq ht hi hd (fun H1 locs1 hP1 hD1 hS1 => k1 _ rfl H1 locs1 ls ⟨⟨_, hP1, hD1, hp_put hw hD hq⟩, hS1⟩ hL)
/-- an object of its own class, or of one that may be cast, or nothing, into an array of references -/
theorem hh_astq (pc2 t0 : Nat) (C : hC E cc nL fr lc mc ms RX D kk dE A) {a n v ci : Nat} {cA : ClassId} {r : vw_C} {vs : List Value} {f : Nat → Option Nat} {i : Int32} (ha : h a = some (.inl (cA, n, .inr (.inr (.inr (.inr f)))))) (ht : (xw_tys kk)[t0]? = some (cA, .object r.1)) (hv : h v = some (.inr (ci, vs))) (hc : vwCl[ci]? = some r) (hi : vp_in i n) (hd : decode cc pc = .ok (.aastore, 1)) (e : pc + 1 = pc2)
    (k1 : ∀ h2, h2 = hu h a (.inl (cA, n, .inr (.inr (.inr (.inr (va_up f i.toNatClampNeg (some v))))))) → ga_W E nL (hw_I E D A h2) ka na pc2 lo st) : ga_W E nL (hw_I E D A h) ka na pc lo (.ref v :: .int i :: .ref a :: st) := by
  subst e
  intro H locs ls hI hL
  obtain ⟨⟨ws, hP, hD, hw⟩, hS⟩ := hI
  obtain ⟨q0, hq⟩ := (hw a _).mp ha
  obtain ⟨qk, hqk⟩ := (hw v _).mp hv
  exact va_astq C.c.1 C.c.2 C.k hP hD hS q0 t0 qk ci hq ht hqk hc hi hd (fun H1 locs1 hP1 hD1 hS1 => k1 _ rfl H1 locs1 ls ⟨⟨_, hP1, hD1, hp_put hw hD hq⟩, hS1⟩ hL)
theorem hh_astqO (pc2 t0 : Nat) (C : hC E cc nL fr lc mc ms RX D kk dE A) {a n v ci : Nat} {cA : ClassId} {Cn : String} {r : vw_C} {vs : List Value} {f : Nat → Option Nat} {i : Int32} (ha : h a = some (.inl (cA, n, .inr (.inr (.inr (.inr f)))))) (ht : (xw_tys kk)[t0]? = some (cA, .object Cn)) (hca : va_Nw (.castable r.1 Cn) (eS E)) (hv : h v = some (.inr (ci, vs))) (hc : vwCl[ci]? = some r) (hi : vp_in i n) (hd : decode cc pc = .ok (.aastore, 1)) (e : pc + 1 = pc2)
    (k1 : ∀ h2, h2 = hu h a (.inl (cA, n, .inr (.inr (.inr (.inr (va_up f i.toNatClampNeg (some v))))))) → ga_W E nL (hw_I E D A h2) ka na pc2 lo st) : ga_W E nL (hw_I E D A h) ka na pc lo (.ref v :: .int i :: .ref a :: st) := by
  subst e
  intro H locs ls hI hL
  obtain ⟨⟨ws, hP, hD, hw⟩, hS⟩ := hI
  obtain ⟨q0, hq⟩ := (hw a _).mp ha
  obtain ⟨qk, hqk⟩ := (hw v _).mp hv
  exact va_astqO C.c.1 C.c.2 C.k hP hD hS q0 t0 qk ci hq ht hca hqk hc hi hd (fun H1 locs1 hP1 hD1 hS1 => k1 _ rfl H1 locs1 ls ⟨⟨_, hP1, hD1, hp_put hw hD hq⟩, hS1⟩ hL)
theorem hh_astqN (pc2 t0 : Nat) (C : hC E cc nL fr lc mc ms RX D kk dE A) {a n : Nat} {cA : ClassId} {Cn : String} {f : Nat → Option Nat} {i : Int32} (ha : h a = some (.inl (cA, n, .inr (.inr (.inr (.inr f)))))) (ht : (xw_tys kk)[t0]? = some (cA, .object Cn)) (hi : vp_in i n) (hd : decode cc pc = .ok (.aastore, 1)) (e : pc + 1 = pc2)
    (k1 : ∀ h2, h2 = hu h a (.inl (cA, n, .inr (.inr (.inr (.inr (va_up f i.toNatClampNeg none)))))) → ga_W E nL (hw_I E D A h2) ka na pc2 lo st) : ga_W E nL (hw_I E D A h) ka na pc lo (.null :: .int i :: .ref a :: st) := by
  subst e
  intro H locs ls hI hL
  obtain ⟨⟨ws, hP, hD, hw⟩, hS⟩ := hI
  obtain ⟨q0, hq⟩ := (hw a _).mp ha
  exact va_astqN C.c.1 C.c.2 C.k hP hD hS q0 t0 hq ht hi hd (fun H1 locs1 hP1 hD1 hS1 => k1 _ rfl H1 locs1 ls ⟨⟨_, hP1, hD1, hp_put hw hD hq⟩, hS1⟩ hL)
/-- Object's constructor -/
theorem hh_obj (pc2 : Nat) (C : hC E cc nL fr lc mc ms RX D kk dE A) {I : Heap → List Loc → Prop} {a idx : Nat} (hlink : Cond.methodLink RX idx Lib.objectInit ∈ lw_all) (hinst : Cond.instanceMethod Lib.objectInit ∈ lw_all) (hcode : Cond.code Lib.objectInit ⟨#[0xb1]⟩ 1 none ∈ lw_all) (hf : 1 ≤ fr) (hlc : 20 ≤ lc) (hst : (st.map fun v => v.category).sum ≤ 8) (hd : decode cc pc = .ok (.invokespecial idx, 3)) (e : pc + 3 = pc2)
    (k1 : ga_W E nL I ka na pc2 lo st) : ga_W E nL I ka na pc lo (.ref a :: st) := by
  subst e
  intro H locs ls hI hL
  refine W.objInit C.c.1 C.c.2 C.ow (C.ts _ hlink) (C.ts _ hinst) (C.ts _ hcode) rfl (hL.1.trans C.ml.symm) rfl hd (by rw [C.rm]; exact hf) ?_ (k1 H locs ls hI hL)
  rw [C.rm]
  have h9 : 2 * (F0 (eM E) pc ls (Value.ref a :: st)).monitorRoom + (st.map fun v => v.category).sum ≤ 8 := lv_room hst
  show _ ≤ lc
  omega
/-- behind a call -/
theorem hw_end {cells slots m2 s2 : Nat} {rest : List Value} {n : Nat} {ls : Array Slot} {H : Heap} {locs : List Loc} {T : State} {g : JFrame} {a : Array Value} (hI : hw_I E D A h H locs) (hL : ga_L ls nL lo) (hg : g = F0 (eM E) pc ls g.stack)
    (hr : ∃ (v2 : Option Value) (st0 t T2 : State) (L : List Loc), st0.heap = H ∧ Stand (eP E) (eL E) (eV E) (eR E) (eS E) (eM E) (eA E) (eB E) (eT E) (eC E) T2 (locs ++ L) (cells + m2) (slots + s2) ∧ (∀ q ∈ L, A q.base) ∧ T2.heap = t.heap ∧ T2.vm = t.vm ∧ hw_Qc D A post a st0 (.returned v2) t ∧ Goes (eP E) (eV E) (eB E) T g T2 { g with pc := g.pc + n, stack := v2.toList ++ rest })
    (k1 : ∀ v h2, post v h2 → ga_W E nL (hw_I E D A h2) (cells + m2) (slots + s2) (pc + n) lo (v.toList ++ rest)) : ∃ t, Steps (eP E).tables (eV E) (eB E) (T.setTop g) t ∧ eQ E t := by
  obtain ⟨v2, st0, t, T2, L, h0, X2, hL2, e1, e2, ⟨⟨v, h2, hv, hpo, hP2⟩, hF⟩, stp⟩ := hr
  cases hv
  obtain ⟨t2, a1, b1⟩ := k1 _ h2 hpo T2.heap (locs ++ L) ls ⟨by rw [e1]; exact hP2, ga_step hI.2 h0 e1 hF hL2⟩ hL T2 rfl X2
  refine ⟨t2, stp t2 ?_, b1⟩
  rw [hg]
  exact a1
theorem hw_pre {as : List Value} {H : Heap} {locs : List Loc} (C : hC E cc nL fr lc mc ms RX D kk dE A) (hI : hw_I E D A h H locs) : FrameBlind (hw_Pc D kk dE A h as) ∧ ∀ U : State, U.heap = H → (eS E).WarmedH U.vm → hw_Pc D kk dE A h as as.toArray U :=
  ⟨fun a U gg mk q => ⟨q.1, q.2.1, q.2.2.calling⟩, fun U hU hW => ⟨rfl, by rw [hU]; exact hI.1, C.j.moved hW hU hI.2⟩⟩
theorem hw_recv {a ci : Nat} {fs : List Value} {r : vw_C} {H : Heap} {locs : List Loc} (C : hC E cc nL fr lc mc ms RX D kk dE A) (hI : hw_I E D A h H locs) (ha : h a = some (.inr (ci, fs))) (hcl : vwCl[ci]? = some r) : ∃ cell : Cell, H[a]? = some cell ∧ cell.vm.isStatics = false ∧ (eS E).vm.findClass r.1 = some cell.cls := va_recv C.k (hI.1.one ha) (ci := ci) (q0 := 0) hcl rfl
theorem hh_callV (pc2 : Nat) (C : hC E cc nL fr lc mc ms RX D kk dE A) {a ci : Nat} {fs : List Value} {Cn : String} {T : u_T} {N : Nat} {y : MethodName} {bytes : ByteArray} {maxL idx n f2 l2 m2 s2 : Nat} {ret : Option FieldType} {as : List Value}
    (hM : Met (eL E) y (ws_ y bytes maxL ret) ({ frames := f2, cells := m2, slots := s2, locals := l2 } : Room) (hw_Pc D kk dE A h (.ref a :: as)) (hw_Qc D A post) m2 s2 A)
    (ha : h a = some (.inr (ci, fs))) (hcl : vwCl[ci]? = some (Cn, T, N)) (hw : GoodIn lw_all (wsV RX idx Cn y (ws_ y bytes maxL ret))) (hdd : y.cls = Cn ∧ y.cls ≠ "java/lang/invoke/MethodHandle" ∧ y.cls ≠ "java/lang/invoke/VarHandle" ∧ (parseMethodDescriptor y.desc).map (fun d => d.parameters.length) = some n) (hn : as.length = n)
    (hf : f2 + 1 ≤ fr) (hlc : 8 + (maxL + 11) + l2 ≤ lc) (hka : ka + m2 ≤ mc) (hna : na + s2 ≤ ms) (hst : (st.map fun v => v.category).sum ≤ 8) (hd : decode cc pc = .ok (.invokevirtual idx, 3)) (e : pc + 3 = pc2)
    (k1 : ∀ v h2, post v h2 → ga_W E nL (hw_I E D A h2) (ka + m2) (na + s2) pc2 lo (v.toList ++ st)) : ga_W E nL (hw_I E D A h) ka na pc lo (as.reverse ++ .ref a :: st) := by
  subst e
  intro H locs ls hI hL T hT S
  have cw : CallW (eR E) (eS E) (eA E) RX Cn idx y bytes maxL ret (ws_ y bytes maxL ret) ({ frames := f2, cells := m2, slots := s2, locals := l2 } : Room) m2 s2 n := cwV n C.ts hw rfl rfl rfl hdd (by rw [C.rm]; exact ⟨hf, hlc⟩)
  have hp := hw_pre (as := .ref a :: as) C hI
  exact hw_end hI hL rfl (va_runV (S := (⟨C.c.1, C.c.2, C.ml, C.ow, C.ts⟩ : CallFix (eP E) (eM E) (eC E) cc nL (eS E) (eA E) lw_all RX)) hM cw ⟨hp.1, hw_recv C hI ha hcl, hp.2⟩ (g := F0 (eM E) pc ls (as.reverse ++ .ref a :: st)) (rest := st) rfl hn hL.1 rfl (lv_room hst) hd (by rw [C.rm]; exact ⟨hka, hna⟩) T hT S) k1
theorem hh_callVN (pc2 : Nat) (C : hC E cc nL fr lc mc ms RX D kk dE A) {a ci : Nat} {fs : List Value} {Cn host : String} {T : u_T} {N : Nat} {y : MethodName} {bytes : ByteArray} {maxL idx n f2 l2 m2 s2 : Nat} {ret : Option FieldType} {as : List Value}
    (hM : Met (eL E) y (ws_ y bytes maxL ret) ({ frames := f2, cells := m2, slots := s2, locals := l2 } : Room) (hw_Pc D kk dE A h (.ref a :: as)) (hw_Qc D A post) m2 s2 A)
    (ha : h a = some (.inr (ci, fs))) (hcl : vwCl[ci]? = some (Cn, T, N)) (hl : Cond.methodLinkNest RX idx y host ∈ lw_tbl) (h2 : Cond.instanceMethod y ∈ lw_all) (h3 : Cond.selects Cn y y ∈ lw_all) (h4 : Cond.initialized y.cls ∈ lw_all) (h5 : Cond.code y bytes maxL ret ∈ lw_all) (hdd : y.cls = Cn ∧ y.cls ≠ "java/lang/invoke/MethodHandle" ∧ y.cls ≠ "java/lang/invoke/VarHandle" ∧ (parseMethodDescriptor y.desc).map (fun d => d.parameters.length) = some n) (hn : as.length = n)
    (hf : f2 + 1 ≤ fr) (hlc : 8 + (maxL + 11) + l2 ≤ lc) (hka : ka + m2 ≤ mc) (hna : na + s2 ≤ ms) (hst : (st.map fun v => v.category).sum ≤ 8) (hd : decode cc pc = .ok (.invokevirtual idx, 3)) (e : pc + 3 = pc2)
    (k1 : ∀ v h2, post v h2 → ga_W E nL (hw_I E D A h2) (ka + m2) (na + s2) pc2 lo (v.toList ++ st)) : ga_W E nL (hw_I E D A h) ka na pc lo (as.reverse ++ .ref a :: st) := by
  subst e
  intro H locs ls hI hL T hT S
  have cw : va_CN (eR E) (eS E) (eA E) RX idx y host bytes maxL ret (ws_ y bytes maxL ret) ({ frames := f2, cells := m2, slots := s2, locals := l2 } : Room) m2 s2 n := va_cnB n C.ts (lw_meth h5) rfl rfl rfl (C.n _ hl rfl) (C.ts _ h4) hdd.2 (by rw [C.rm]; exact ⟨hf, hlc⟩)
  have hp := hw_pre (as := .ref a :: as) C hI
  exact hw_end hI hL rfl (va_runVN (C := Cn) (S := (⟨C.c.1, C.c.2, C.ml, C.ow, C.ts⟩ : CallFix (eP E) (eM E) (eC E) cc nL (eS E) (eA E) lw_all RX)) hM ⟨cw, C.ts _ h2, C.ts _ h3⟩ ⟨hp.1, hw_recv C hI ha hcl, hp.2⟩ (g := F0 (eM E) pc ls (as.reverse ++ .ref a :: st)) (rest := st) rfl hn hL.1 rfl (lv_room hst) hd (by rw [C.rm]; exact ⟨hka, hna⟩) T hT S) k1
theorem hh_callI (pc2 : Nat) (C : hC E cc nL fr lc mc ms RX D kk dE A) {a : Nat} {y : MethodName} {bytes : ByteArray} {maxL idx n f2 l2 m2 s2 : Nat} {as : List Value}
    (hM : Met (eL E) y (ws_ y bytes maxL none) ({ frames := f2, cells := m2, slots := s2, locals := l2 } : Room) (hw_Pc D kk dE A h (.ref a :: as)) (hw_Qc D A post) m2 s2 A)
    (hl : Cond.methodLink RX idx y ∈ lw_all) (h2 : Cond.instanceMethod y ∈ lw_all) (h4 : Cond.initialized y.cls ∈ lw_all) (h5 : Cond.code y bytes maxL none ∈ lw_all) (hy1 : y.name = "<init>") (hdd : y.cls ≠ "java/lang/invoke/MethodHandle" ∧ y.cls ≠ "java/lang/invoke/VarHandle" ∧ (parseMethodDescriptor y.desc).map (fun d => d.parameters.length) = some n) (hn : as.length = n)
    (hf : f2 + 1 ≤ fr) (hlc : 8 + (maxL + 11) + l2 ≤ lc) (hka : ka + m2 ≤ mc) (hna : na + s2 ≤ ms) (hst : (st.map fun v => v.category).sum ≤ 8) (hd : decode cc pc = .ok (.invokespecial idx, 3)) (e : pc + 3 = pc2)
    (k1 : ∀ v h2, post v h2 → ga_W E nL (hw_I E D A h2) (ka + m2) (na + s2) pc2 lo (v.toList ++ st)) : ga_W E nL (hw_I E D A h) ka na pc lo (as.reverse ++ .ref a :: st) := by
  subst e
  intro H locs ls hI hL T hT S
  have cw := cwI (R := eR E) (s := eS E) (args := eA E) (own := RX) (index := idx) (y := y) (bytes := bytes) (maxL := maxL) (rm := ({ frames := f2, cells := m2, slots := s2, locals := l2 } : Room)) (mc := m2) (ms := s2) (ws := ws_ y bytes maxL none) n C.ts (lw_meth h5) rfl rfl rfl (C.ts _ h4) (C.ts _ hl) (C.ts _ h2) hy1 hdd (by rw [C.rm]; exact ⟨hf, hlc⟩)
  have hp := hw_pre (as := .ref a :: as) C hI
  exact hw_end hI hL rfl (va_runI (S := (⟨C.c.1, C.c.2, C.ml, C.ow, C.ts⟩ : CallFix (eP E) (eM E) (eC E) cc nL (eS E) (eA E) lw_all RX)) hM cw ⟨hp.1, hp.2⟩ (g := F0 (eM E) pc ls (as.reverse ++ .ref a :: st)) (rest := st) rfl hn hL.1 rfl (lv_room hst) hd (by rw [C.rm]; exact ⟨hka, hna⟩) T hT S) k1
theorem hh_callIN (pc2 : Nat) (C : hC E cc nL fr lc mc ms RX D kk dE A) {a : Nat} {y : MethodName} {host : String} {bytes : ByteArray} {maxL idx n f2 l2 m2 s2 : Nat} {as : List Value}
    (hM : Met (eL E) y (ws_ y bytes maxL none) ({ frames := f2, cells := m2, slots := s2, locals := l2 } : Room) (hw_Pc D kk dE A h (.ref a :: as)) (hw_Qc D A post) m2 s2 A)
    (hl : Cond.methodLinkNest RX idx y host ∈ lw_tbl) (h2 : Cond.instanceMethod y ∈ lw_all) (h4 : Cond.initialized y.cls ∈ lw_all) (h5 : Cond.code y bytes maxL none ∈ lw_all) (hy1 : y.name = "<init>") (hdd : y.cls ≠ "java/lang/invoke/MethodHandle" ∧ y.cls ≠ "java/lang/invoke/VarHandle" ∧ (parseMethodDescriptor y.desc).map (fun d => d.parameters.length) = some n) (hn : as.length = n)
    (hf : f2 + 1 ≤ fr) (hlc : 8 + (maxL + 11) + l2 ≤ lc) (hka : ka + m2 ≤ mc) (hna : na + s2 ≤ ms) (hst : (st.map fun v => v.category).sum ≤ 8) (hd : decode cc pc = .ok (.invokespecial idx, 3)) (e : pc + 3 = pc2)
    (k1 : ∀ v h2, post v h2 → ga_W E nL (hw_I E D A h2) (ka + m2) (na + s2) pc2 lo (v.toList ++ st)) : ga_W E nL (hw_I E D A h) ka na pc lo (as.reverse ++ .ref a :: st) := by
  subst e
  intro H locs ls hI hL T hT S
  have cw : va_CN (eR E) (eS E) (eA E) RX idx y host bytes maxL none (ws_ y bytes maxL none) ({ frames := f2, cells := m2, slots := s2, locals := l2 } : Room) m2 s2 n := va_cnB n C.ts (lw_meth h5) rfl rfl rfl (C.n _ hl rfl) (C.ts _ h4) hdd (by rw [C.rm]; exact ⟨hf, hlc⟩)
  have hp := hw_pre (as := .ref a :: as) C hI
  exact hw_end hI hL rfl (va_runIN (S := (⟨C.c.1, C.c.2, C.ml, C.ow, C.ts⟩ : CallFix (eP E) (eM E) (eC E) cc nL (eS E) (eA E) lw_all RX)) hM ⟨cw, hy1, C.ts _ h2⟩ ⟨hp.1, hp.2⟩ (g := F0 (eM E) pc ls (as.reverse ++ .ref a :: st)) (rest := st) rfl hn hL.1 rfl (lv_room hst) hd (by rw [C.rm]; exact ⟨hka, hna⟩) T hT S) k1
theorem hh_callS (pc2 : Nat) (C : hC E cc nL fr lc mc ms RX D kk dE A) {y : MethodName} {bytes : ByteArray} {maxL idx n f2 l2 m2 s2 : Nat} {ret : Option FieldType} {as : List Value}
    (hM : Met (eL E) y (ws_ y bytes maxL ret) ({ frames := f2, cells := m2, slots := s2, locals := l2 } : Room) (hw_Pc D kk dE A h as) (hw_Qc D A post) m2 s2 A)
    (hw : GoodIn lw_all (va_wsS RX idx y (ws_ y bytes maxL ret))) (hdd : y.cls ≠ "java/lang/invoke/MethodHandle" ∧ y.cls ≠ "java/lang/invoke/VarHandle" ∧ (parseMethodDescriptor y.desc).map (fun d => d.parameters.length) = some n) (hn : as.length = n)
    (hf : f2 + 1 ≤ fr) (hlc : 8 + (maxL + 11) + l2 ≤ lc) (hka : ka + m2 ≤ mc) (hna : na + s2 ≤ ms) (hst : (st.map fun v => v.category).sum ≤ 8) (hd : decode cc pc = .ok (.invokestatic idx, 3)) (e : pc + 3 = pc2)
    (k1 : ∀ v h2, post v h2 → ga_W E nL (hw_I E D A h2) (ka + m2) (na + s2) pc2 lo (v.toList ++ st)) : ga_W E nL (hw_I E D A h) ka na pc lo (as.reverse ++ st) := by
  subst e
  intro H locs ls hI hL T hT S
  have cw := va_cwS (R := eR E) (s := eS E) (args := eA E) (own := RX) (index := idx) (y := y) (bytes := bytes) (maxL := maxL) (ret := ret) (rm := ({ frames := f2, cells := m2, slots := s2, locals := l2 } : Room)) (mc := m2) (ms := s2) n C.ts hw rfl rfl rfl hdd (by rw [C.rm]; exact ⟨hf, hlc⟩)
  have hp := hw_pre (as := as) C hI
  exact hw_end hI hL rfl (va_runS (S := (⟨C.c.1, C.c.2, C.ml, C.ow, C.ts⟩ : CallFix (eP E) (eM E) (eC E) cc nL (eS E) (eA E) lw_all RX)) hM cw ⟨hp.1, hp.2⟩ (g := F0 (eM E) pc ls (as.reverse ++ st)) (rest := st) rfl hn hL.1 rfl (lv_room hst) hd (by rw [C.rm]; exact ⟨hka, hna⟩) T hT S) k1
theorem hh_callF (pc2 : Nat) (C : hC E cc nL fr lc mc ms RX D kk dE A) {a ci : Nat} {fs : List Value} {Cn : String} {T : u_T} {N count : Nat} {x y : MethodName} {bytes : ByteArray} {maxL idx n f2 l2 m2 s2 : Nat} {ret : Option FieldType} {as : List Value}
    (hM : Met (eL E) y (ws_ y bytes maxL ret) ({ frames := f2, cells := m2, slots := s2, locals := l2 } : Room) (hw_Pc D kk dE A h (.ref a :: as)) (hw_Qc D A post) m2 s2 A)
    (ha : h a = some (.inr (ci, fs))) (hcl : vwCl[ci]? = some (Cn, T, N)) (hF : va_Fw Cn x y (eS E)) (hw : GoodIn lw_all (va_wsF RX idx Cn x y (ws_ y bytes maxL ret))) (hdd : x.cls ≠ "java/lang/invoke/MethodHandle" ∧ x.cls ≠ "java/lang/invoke/VarHandle" ∧ (parseMethodDescriptor x.desc).map (fun d => d.parameters.length) = some n) (hn : as.length = n)
    (hf : f2 + 1 ≤ fr) (hlc : 8 + (maxL + 11) + l2 ≤ lc) (hka : ka + m2 ≤ mc) (hna : na + s2 ≤ ms) (hst : (st.map fun v => v.category).sum ≤ 8) (hd : decode cc pc = .ok (.invokeinterface idx count, 5)) (e : pc + 5 = pc2)
    (k1 : ∀ v h2, post v h2 → ga_W E nL (hw_I E D A h2) (ka + m2) (na + s2) pc2 lo (v.toList ++ st)) : ga_W E nL (hw_I E D A h) ka na pc lo (as.reverse ++ .ref a :: st) := by
  subst e
  intro H locs ls hI hL T hT S
  have cw : va_CI (eR E) (eS E) (eA E) RX Cn idx x y bytes maxL ret (ws_ y bytes maxL ret) ({ frames := f2, cells := m2, slots := s2, locals := l2 } : Room) m2 s2 n := va_cwF n C.ts hw rfl rfl rfl hF hdd (by rw [C.rm]; exact ⟨hf, hlc⟩)
  have hp := hw_pre (as := .ref a :: as) C hI
  have hat : ClassAt (eS E) Cn (D.1 ci) := (C.k.1 ci _ hcl).2
  exact hw_end hI hL rfl (va_runF hat (S := (⟨C.c.1, C.c.2, C.ml, C.ow, C.ts⟩ : CallFix (eP E) (eM E) (eC E) cc nL (eS E) (eA E) lw_all RX)) hM cw ⟨hp.1, hw_recv C hI ha hcl, hp.2⟩ (g := F0 (eM E) pc ls (as.reverse ++ .ref a :: st)) (rest := st) rfl hn hL.1 rfl (lv_room hst) hd (by rw [C.rm]; exact ⟨hka, hna⟩) T hT S) k1
end HW
/-- what was there stays, but for L -/
def hfr (h h2 : hG) (L : List Nat) : Prop := ∀ (b : Nat) (e : va_E), b ∉ L → h b = some e → h2 b = some e
theorem hfr.rf {h : hG} {L : List Nat} : hfr h h L := fun b e nb hb => hb
theorem hu_fr {h h2 : hG} {a : Nat} {x : va_E} (e : h2 = hu h a x) : hfr h h2 [a] := fun b y nb hb => by
  rw [e, hu_n (fun q => nb (by rw [q]; exact List.mem_singleton.mpr rfl))]
  exact hb
theorem hu_fr0 {h h2 : hG} {a : Nat} {x : va_E} (e : h2 = hu h a x) (hn : h a = none) : hfr h h2 [] := fun b y nb hb => by
  rw [e, hu_n (hn_ne hb hn)]
  exact hb
theorem hu_at {h h2 : hG} {a : Nat} {x : va_E} (e : h2 = hu h a x) : h2 a = some x := by rw [e]; exact hu_s
theorem hfr.tr {h h1 h2 : hG} {L L1 L2 : List Nat} (k1 : hfr h h1 L1) (k2 : hfr h1 h2 L2) (h1L : ∀ x ∈ L1, x ∈ L) (h2L : ∀ x ∈ L2, x ∈ L ∨ h x = none) : hfr h h2 L := fun b e nb hb => k2 b e (fun q => by
  rcases h2L b q with c | c
  · exact nb c
  · rw [hb] at c
    cases c) (k1 b e (fun q => nb (h1L b q)) hb)
theorem nm1 {b x : Nat} (h : b ≠ x) : b ∉ [x] := fun q => h (List.mem_singleton.mp q)
theorem nm2 {b x y : Nat} (h : b ≠ x) (h2 : b ≠ y) : b ∉ [x, y] := fun q => (List.mem_cons.mp q).elim h (nm1 h2)
theorem nm3 {b x y z : Nat} (h : b ≠ x) (h2 : b ≠ y) (h3 : b ≠ z) : b ∉ [x, y, z] := fun q => (List.mem_cons.mp q).elim h (nm2 h2 h3)
theorem nm4 {b x y z w : Nat} (h : b ≠ x) (h2 : b ≠ y) (h3 : b ≠ z) (h4 : b ≠ w) : b ∉ [x, y, z, w] := fun q => (List.mem_cons.mp q).elim h (nm3 h2 h3 h4)
theorem nx {b a : Nat} {L : List Nat} (nb : b ∉ L) (ha : a ∈ L) : b ≠ a := fun q => nb (q ▸ ha)
theorem hno {h h1 : hG} {L : List Nat} {d : Nat} (k : hfr h h1 L) (hd : h1 d = none) (nd : d ∉ L) : h d = none := by
  cases c : h d with
  | none => rfl
  | some e =>
    rw [k d e nd c] at hd
    cases hd
/-- what an array of a list holds: objects that may lie in a row of Objects -/
def hel (h : hG) (y : Nat) : Prop := ∃ (ci : Nat) (vs : List Value), h y = some (.inr (ci, vs)) ∧ 9 ≤ ci ∧ ci ≤ 12
theorem hel.kept {h h2 : hG} {y : Nat} {L : List Nat} (hy : hel h y) (k : hfr h h2 L) (hL : y ∉ L := by exact List.not_mem_nil) : hel h2 y := by
  obtain ⟨ci, vs, h1, h3⟩ := hy
  exact ⟨ci, vs, k y _ hL h1, h3⟩
theorem hel.any {E : gE} {D : va_G} {kk : Nat → Nat} {A : Nat → Prop} {h : hG} {H : Heap} {y : Nat} (hy : hel h y) (hs : hcs (eS E)) (hK : va_K D vwCl (xw_tys kk) (eS E)) (hh : hp D A h H) : va_Any "java/lang/Object" (eS E) H y := by
  obtain ⟨ci, vs, hy, h9, h12⟩ := hy
  have go : ∀ (C : String) (r : vw_C), vwCl[ci]? = some r → r.1 = C → (C, "java/lang/Object") ∈ hc_l → va_Any "java/lang/Object" (eS E) H y := by
    intro C r hr hC hm
    refine va_rAny hK (hh.one hy) (q0 := 0) rfl hr (fun comp c0 e1 e2 => ?_)
    obtain ⟨c1, t1, f1, f2, f3⟩ := Cond.castable_spec (va_Nw.use (A := #[]) rfl (hs _ hm))
    rw [hC] at e2
    cases f1.symm.trans e2
    cases f2.symm.trans e1
    exact f3
  rcases (show ci = 9 ∨ ci = 10 ∨ ci = 11 ∨ ci = 12 by omega) with rfl | rfl | rfl | rfl
  · exact go RX9 _ rfl rfl (by decide)
  · exact go RX10 _ rfl rfl (by decide)
  · exact go RX11 _ rfl rfl (by decide)
  · exact go RX12 _ rfl rfl (by decide)
theorem ls_ne {j cap : Nat} (hj : j < cap) (hc : cap < 2 ^ 31) : ¬ nI j = Int32.ofNat cap := fun q => by
  have := (nI_eq (show j < 2 ^ 31 by omega) hc).mp q
  omega
theorem ls_pred {n : Nat} (hn : 0 < n) (h2 : n < 2 ^ 31) : nI n - 1 = nI (n - 1) := by
  obtain ⟨k, rfl⟩ : ∃ k, n = k + 1 := ⟨n - 1, by omega⟩
  rw [nI_pred]
  rfl
/-- the first i are none -/
def cl_f (f : Nat → Option Nat) (i : Nat) : Nat → Option Nat := fun j => if j < i then none else f j
theorem cl_f0 {f : Nat → Option Nat} : cl_f f 0 = f := by
  funext j
  unfold cl_f
  rw [if_neg (by omega)]
theorem cl_fs {f : Nat → Option Nat} {i : Nat} : va_up (cl_f f i) i none = cl_f f (i + 1) := by
  funext j
  unfold cl_f va_up
  by_cases c : j = i
  · rw [if_pos c, if_pos (by omega)]
  · rw [if_neg c]
    show (if j < i then none else f j) = _
    by_cases c2 : j < i
    · rw [if_pos c2, if_pos (by omega)]
    · rw [if_neg c2, if_neg (by omega)]
/-- a full array of cap grows to N -/
def ls_G (cap N : Nat) : Prop := 0 < Int32.ofNat cap ∧ Int32.ofNat cap + pu_max (nI cap + 1 - Int32.ofNat cap) (Int32.ofNat cap >>> ((1 : Int32) &&& 31)) = nI N ∧ ¬ Int32.ofNat cap + pu_max (nI cap + 1 - Int32.ofNat cap) (Int32.ofNat cap >>> ((1 : Int32) &&& 31)) ≤ 0 ∧ ¬ 2147483639 < Int32.ofNat cap + pu_max (nI cap + 1 - Int32.ofNat cap) (Int32.ofNat cap >>> ((1 : Int32) &&& 31)) ∧ ¬ nI N < 0 ∧ (nI N).toNatClampNeg = N ∧ N * 4 ≤ 536870912 ∧ ¬ pu_min (Int32.ofNat cap) (nI N) < 0 ∧ (pu_min (Int32.ofNat cap) (nI N)).toNatClampNeg = cap ∧ cap ≤ N
theorem ls_G10 : ls_G 10 15 := by unfold ls_G; decide
theorem ls_G15 : ls_G 15 22 := by unfold ls_G; decide
theorem ls_G22 : ls_G 22 33 := by unfold ls_G; decide
theorem ls_min {n cap : Nat} (hn : n ≤ cap) (hc : cap < 2 ^ 31) : pu_min (Int32.ofNat cap) (nI n) = nI n := by
  unfold pu_min
  by_cases c : n < cap
  · rw [if_pos (show nI n < Int32.ofNat cap from nI_lt c hc)]
  · have e : cap = n := by omega
    subst e
    rw [if_neg (show ¬ nI cap < Int32.ofNat cap from nI_nlt (Nat.le_refl _) hc)]
    rfl
theorem ls_room {n cap : Nat} (hn : n ≤ cap) (hc : cap < 2 ^ 31) : Int32.ofNat n ≤ Int32.ofNat cap - nI 0 := by
  rw [show Int32.ofNat cap - nI 0 = nI cap by rw [nI_0, Int32.sub_zero]; rfl]
  exact nI_le hn hc
theorem ls_norm {n : Nat} (hn : 0 < n) (hc : n < 2 ^ 31) : ¬ Int32.ofNat n ≤ Int32.ofNat 0 - nI 0 := by
  rw [show Int32.ofNat 0 - nI 0 = nI 0 by decide]
  exact nI_ge hn hc
def ls_mx (n : Nat) : Nat := if 10 < n then n else 10
theorem ls_max {n : Nat} (hc : n < 2 ^ 31) : pu_max 10 (nI 0 + Int32.ofNat n) = nI (ls_mx n) := by
  rw [show nI 0 + Int32.ofNat n = nI n by rw [nI_0, Int32.zero_add]; rfl]
  unfold pu_max ls_mx
  by_cases c : 10 < n
  · rw [if_pos (show (10 : Int32) < nI n from nI_lt (a := 10) c hc), if_pos c]
  · rw [if_neg (show ¬ (10 : Int32) < nI n from nI_nlt (b := n) (a := 10) (by omega) (by decide)), if_neg c]
    rfl
theorem ls_cpy {fb g : Nat → Option Nat} {nb i y : Nat} (hi : i < nb) (hy : va_cpy fb g 0 0 nb i = some y) : fb i = some y := by
  unfold va_cpy at hy
  rw [if_pos (by omega)] at hy
  rw [show 0 + (i - 0) = i by omega] at hy
  exact hy
theorem ls_z {n : Nat} (hn : n < 1000) (h : Int32.ofNat n = 0) : n = 0 := by
  have := (nI_eq (a := n) (b := 0) (by omega) (by omega)).mp h
  exact this
theorem ls_cp {fb g : Nat → Option Nat} {nb i : Nat} (hi : i < nb) : va_cpy fb g 0 0 nb i = fb i := by
  unfold va_cpy
  rw [if_pos (by omega)]
  rw [show 0 + (i - 0) = i by omega]
theorem cdL_add : yL_add.cls ≠ "java/lang/invoke/MethodHandle" ∧ yL_add.cls ≠ "java/lang/invoke/VarHandle" ∧ (parseMethodDescriptor yL_add.desc).map (fun d => d.parameters.length) = some 1 := by decide +kernel
theorem cdL_addAll : yL_addAll.cls ≠ "java/lang/invoke/MethodHandle" ∧ yL_addAll.cls ≠ "java/lang/invoke/VarHandle" ∧ (parseMethodDescriptor yL_addAll.desc).map (fun d => d.parameters.length) = some 1 := by decide +kernel
theorem cdL_remove : yL_remove.cls ≠ "java/lang/invoke/MethodHandle" ∧ yL_remove.cls ≠ "java/lang/invoke/VarHandle" ∧ (parseMethodDescriptor yL_remove.desc).map (fun d => d.parameters.length) = some 1 := by decide +kernel
theorem cdL_clear : yL_clear.cls ≠ "java/lang/invoke/MethodHandle" ∧ yL_clear.cls ≠ "java/lang/invoke/VarHandle" ∧ (parseMethodDescriptor yL_clear.desc).map (fun d => d.parameters.length) = some 0 := by decide +kernel
theorem cdL_iterator : yL_iterator.cls ≠ "java/lang/invoke/MethodHandle" ∧ yL_iterator.cls ≠ "java/lang/invoke/VarHandle" ∧ (parseMethodDescriptor yL_iterator.desc).map (fun d => d.parameters.length) = some 0 := by decide +kernel
theorem cdL_toArray : yC_toArray.cls ≠ "java/lang/invoke/MethodHandle" ∧ yC_toArray.cls ≠ "java/lang/invoke/VarHandle" ∧ (parseMethodDescriptor yC_toArray.desc).map (fun d => d.parameters.length) = some 0 := by decide +kernel
theorem cdL_hasNext : yI_hasNext.cls ≠ "java/lang/invoke/MethodHandle" ∧ yI_hasNext.cls ≠ "java/lang/invoke/VarHandle" ∧ (parseMethodDescriptor yI_hasNext.desc).map (fun d => d.parameters.length) = some 0 := by decide +kernel
theorem cdL_next : yI_next.cls ≠ "java/lang/invoke/MethodHandle" ∧ yI_next.cls ≠ "java/lang/invoke/VarHandle" ∧ (parseMethodDescriptor yI_next.desc).map (fun d => d.parameters.length) = some 0 := by decide +kernel
section HX
variable {fr lc mc ms : Nat} {RX : String} {D : va_G} {kk : Nat → Nat} {dE : Nat → Nat} {A : Nat → Prop} {h : hG}
variable {E : gE} {cc : ByteArray} {nL : Nat} {I : Heap → List Loc → Prop} {ka na pc : Nat} {lo : List (Option Value)} {st : List Value}
theorem ga_aload_nN (pc2 : Nat) (C : ga_C E cc) {k : Fin 4} (i : Nat) (hi : (k : Nat) = i) (hl : lo[i]? = some (some .null)) (hd : decode cc pc = .ok (.aload_n k, 1)) (e : pc + 1 = pc2) (k1 : ga_W E nL I ka na pc2 lo (.null :: st)) : ga_W E nL I ka na pc lo st := by
  subst e
  exact fun H locs ls hI hL => lv_aload_nN C.1 C.2 hd hi (hL.2.2 i _ hl) (k1 H locs ls hI hL)
theorem ga_acmp_eqT (pc2 : Nat) (C : ga_C E cc) {x : Nat} {off : Int} (hd : decode cc pc = .ok (.if_acmp .eq off, 3)) (ht : (pc : Int) + off = (pc2 : Int)) (k1 : ga_W E nL I ka na pc2 lo st) : ga_W E nL I ka na pc lo (.ref x :: .ref x :: st) := fun H locs ls hI hL => lv_acmp_eq (rx := some x) (ry := some x) C.1 C.2 hd ht (fun _ => k1 H locs ls hI hL) (fun c => absurd rfl c)
theorem ga_acmp_neT (pc2 : Nat) (C : ga_C E cc) {x : Nat} {off : Int} (hd : decode cc pc = .ok (.if_acmp .ne off, 3)) (e : pc + 3 = pc2) (tgt : Nat) (ht : (pc : Int) + off = (tgt : Int)) (k1 : ga_W E nL I ka na pc2 lo st) : ga_W E nL I ka na pc lo (.ref x :: .ref x :: st) := by
  subst e
  exact fun H locs ls hI hL => lv_acmp_ne (rx := some x) (ry := some x) C.1 C.2 hd ht (fun c => absurd rfl c) (fun _ => k1 H locs ls hI hL)
theorem hh_ldcM (pc2 : Nat) (C : hC E cc nL fr lc mc ms RX D kk dE A) {idx : Nat} (hl : Cond.classLink RX idx "[Ljava/lang/Object;" ∈ lw_all) (hd : decode cc pc = .ok (.ldc idx, 2)) (e : pc + 2 = pc2) (k1 : ga_W E nL I ka na pc2 lo (.ref (dE 1) :: st)) : ga_W E nL I ka na pc lo st := by
  subst e
  exact fun H locs ls hI hL => va_ldcM C.c.1 C.c.2 C.ow (C.ts _ hl) C.m hd (k1 H locs ls hI hL)
theorem hh_getC (pc2 : Nat) (C : hC E cc nL fr lc mc ms RX D kk dE A) {a n idx : Nat} {f : Nat → Option Nat} (ha : h a = some (.inl (kk 5, n, .inr (.inr (.inr (.inr f)))))) (hl : Cond.methodLink RX idx ⟨"java/lang/Object", "getClass", "()Ljava/lang/Class;"⟩ ∈ lw_all) (hf : 1 ≤ fr) (hlc : 40 ≤ lc) (hst : (st.map fun v => v.category).sum ≤ 8) (hd : decode cc pc = .ok (.invokevirtual idx, 3)) (e : pc + 3 = pc2) (k1 : ga_W E nL (hw_I E D A h) ka na pc2 lo (.ref (dE 1) :: st)) : ga_W E nL (hw_I E D A h) ka na pc lo (.ref a :: st) := by
  subst e
  exact fun H locs ls hI hL => va_getC C.c.1 C.c.2 (C.ml.trans hL.1.symm) C.ow (C.ts _ hl) (va_Dc.use C.g) (C.ts _ q2336) (C.ts _ q860) (C.ts _ q881) C.m (arr_recv (hI.1.one ha) (va_nmO (C.k.2 5 _ rfl).2 (by decide +kernel))) (by rw [C.rm]; exact hf) (by rw [C.rm]; show _ ≤ lc; omega) hd (k1 H locs ls hI hL)
theorem hh_astqE (pc2 : Nat) (C : hC E cc nL fr lc mc ms RX D kk dE A) {a n v : Nat} {f : Nat → Option Nat} {i : Int32} (ha : h a = some (.inl (kk 5, n, .inr (.inr (.inr (.inr f)))))) (hv : hel h v) (hi : vp_in i n) (hd : decode cc pc = .ok (.aastore, 1)) (e : pc + 1 = pc2)
    (k1 : ∀ h2, h2 = hu h a (.inl (kk 5, n, .inr (.inr (.inr (.inr (va_up f i.toNatClampNeg (some v))))))) → ga_W E nL (hw_I E D A h2) ka na pc2 lo st) : ga_W E nL (hw_I E D A h) ka na pc lo (.ref v :: .int i :: .ref a :: st) := by
  subst e
  intro H locs ls hI hL
  have hh := hI.1
  obtain ⟨⟨ws, hP, hD, hw⟩, hS⟩ := hI
  obtain ⟨q0, hq⟩ := (hw a _).mp ha
  exact va_astqM C.c.1 C.c.2 C.k hP hD hS q0 5 hq rfl (hv.any C.s C.k hh) hi hd (fun H1 locs1 hP1 hD1 hS1 => k1 _ rfl H1 locs1 ls ⟨⟨_, hP1, hD1, hp_put hw hD hq⟩, hS1⟩ hL)
/-- System.arraycopy between two arrays of Objects -/
theorem hh_copyq (pc2 : Nat) (C : hC E cc nL fr lc mc ms RX D kk dE A) {a0 a n0 n1 idx : Nat} {f g : Nat → Option Nat} {sp dp n : Int32} (hl : Cond.methodLink RX idx arraycopyName ∈ lw_all) (ha0 : h a0 = some (.inl (kk 5, n0, .inr (.inr (.inr (.inr f)))))) (ha : h a = some (.inl (kk 5, n1, .inr (.inr (.inr (.inr g)))))) (h1 : ¬ sp < 0) (h2 : ¬ dp < 0) (h3 : ¬ n < 0) (h4 : sp.toNatClampNeg + n.toNatClampNeg ≤ n0) (h5 : dp.toNatClampNeg + n.toNatClampNeg ≤ n1) (hel0 : ∀ i : Nat, i < n.toNatClampNeg → ∀ y : Nat, f (sp.toNatClampNeg + i) = some y → hel h y) (hf : 1 ≤ fr) (hlc : 60 ≤ lc) (hst : (st.map fun v => v.category).sum ≤ 8) (hd : decode cc pc = .ok (.invokestatic idx, 3)) (e : pc + 3 = pc2)
    (k1 : ∀ h2, h2 = hu h a (.inl (kk 5, n1, .inr (.inr (.inr (.inr (va_cpy f g sp.toNatClampNeg dp.toNatClampNeg n.toNatClampNeg)))))) → ga_W E nL (hw_I E D A h2) ka na pc2 lo st) : ga_W E nL (hw_I E D A h) ka na pc lo (.int n :: .int dp :: .ref a :: .int sp :: .ref a0 :: st) := by
  subst e
  intro H locs ls hI hL
  have hh := hI.1
  obtain ⟨⟨ws, hP, hD, hw⟩, hS⟩ := hI
  obtain ⟨q0, hq0⟩ := (hw a0 _).mp ha0
  obtain ⟨q1, hq1⟩ := (hw a _).mp ha
  have hn : nativeFrameWords "java/lang/System" "arraycopy" 5 = 7 := by decide
  refine va_copyM (E0 := "java/lang/Object") (E1 := "java/lang/Object") C.c.1 C.c.2 (C.ml.trans hL.1.symm) C.ow (C.ts _ hl) (C.ts _ q328) (C.ts _ q327) (C.ts _ q116) C.k hP hD hS q0 q1 5 5 hq0 hq1 rfl rfl h1 h2 h3 h4 h5 (fun i hi y hy => (hel0 i hi y hy).any C.s C.k hh) (by rw [C.rm]; exact hf) ?_ hd (fun H1 locs1 hP1 hD1 hS1 => k1 _ rfl H1 locs1 ls ⟨⟨_, hP1, hD1, hp_put hw hD hq1⟩, hS1⟩ hL)
  rw [C.rm, hn]
  show _ ≤ lc
  omega
end HX
