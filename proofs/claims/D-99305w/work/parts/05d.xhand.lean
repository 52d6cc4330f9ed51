set_option maxRecDepth 100000
/-! the component's rows that are no generated walk: fills, copies, slots, the two recursive methods -/
def pu_h {α : Type} (p : PS) (s : Nat) (x : Option α) : Option α := if pm p s = -1 then none else x
theorem pu_h_w {α : Type} {p : PS} {s : Nat} {x : Option α} {r : α} (h : pu_h p s x = some r) : ¬ pm p s = -1 ∧ x = some r := by
  unfold pu_h at h
  by_cases q : pm p s = -1
  · rw [if_pos q] at h
    cases h
  · rw [if_neg q] at h
    exact ⟨q, h⟩
def fX2_is (p : PS) : Int32 := if pw p 7 ≤ 0 then 0 else 1
def pu_fill {α : Type} (f : Nat → α) (n : Nat) (v : α) : Nat → α := fun j => if j < n then v else f j
def msf (z : MS) (k n : Nat) (v : Int32) : MS := (z.1, va_up z.2.1 k (pu_fill (z.2.1 k) n v), z.2.2)
def mslf (z : MS) (k n : Nat) (v : Int64) : MS := (z.1, z.2.1, va_up z.2.2 k (pu_fill (z.2.2 k) n v))
/-- the weights are copied back: the first 2000 of the second row into the first -/
def mslc (z : MS) : MS := (z.1, z.2.1, va_up z.2.2 0 (va_cpy (z.2.2 1) (z.2.2 0) 0 0 2000))
theorem ga_vret {E : gE} {cc : ByteArray} {nL pc : Nat} {I : Heap → List Loc → Prop} {lo : List (Option Value)} {Qc : Array Value → State → Outcome → State → Prop} {free : Addr → Prop} (C : ga_C E cc) (hr : (eT E).sig.returnType = none) (hlk : (eT E).locks = false) (hq : eQ E = MQ (eB E) Qc (eA E) (eS E) 0 0 free) (hI : ∀ H locs, I H locs → (∀ t : State, t.heap = H → (eS E).WarmedH t.vm → Qc (eA E) (eS E) (.returned none) t) ∧ ∀ q ∈ locs, free q.base) (hd : decode cc pc = .ok (.return_, 1)) : ga_W E nL I 0 0 pc lo [] := by
  intro H locs ls h hL
  rw [hq]
  exact W.vret C.1 C.2 hr (hI H locs h).1 (hI H locs h).2 hd hlk
/-- an array's cell, seen as a receiver of instanceof and checkcast -/
theorem arr_recv {s : State} {D : va_G} {H : Heap} {h : Nat} {cA : ClassId} {x : vp_A} {nm : String} (hP : va_P D vwCl [(h, .inl (cA, x))] H) (hnm : s.vm.findClass nm = some cA) : ∃ cell : Cell, H[h]? = some cell ∧ cell.vm.isStatics = false ∧ s.vm.findClass nm = some cell.cls := by
  have h1 : H[h]? = some (vp_cell cA x) := hP 0 _ rfl
  refine ⟨_, h1, ?_, ?_⟩
  · obtain ⟨n, f | f | f | f | f⟩ := x <;> rfl
  · rw [hnm]
    obtain ⟨n, f | f | f | f | f⟩ := x <;> rfl
section XS
variable {E : gE} {cc : ByteArray} {nL fr lc : Nat} {RX : String} {ka na pc : Nat} {lo : List (Option Value)} {st : List Value} {I : Heap → List Loc → Prop} {D : va_G}
theorem ga_instE (pc2 : Nat) (C : ga_C E cc) {own nm : String} {idx h : Nat} {cA : ClassId} {x : vp_A} (how : (eS E).vm.findClass own = some (eM E).cls) (hl : (Cond.classLink own idx nm).before (eA E) (eS E) = true) (hP : ∀ H locs, I H locs → va_P D vwCl [(h, .inl (cA, x))] H) (hnm : (eS E).vm.findClass nm = some cA) (hd : decode cc pc = .ok (.instanceof idx, 3)) (e : pc + 3 = pc2)
    (k1 : ga_W E nL I ka na pc2 lo (.int 1 :: st)) : ga_W E nL I ka na pc lo (.ref h :: st) := by
  subst e
  exact fun H locs ls hI hL => va_instE C.1 C.2 how hl (arr_recv (hP H locs hI) hnm) hd (k1 H locs ls hI hL)
theorem ga_instNo (pc2 : Nat) (C : ga_C E cc) {own nm nm2 : String} {idx h : Nat} {cA : ClassId} {x : vp_A} (how : (eS E).vm.findClass own = some (eM E).cls) (hl : (Cond.classLink own idx nm).before (eA E) (eS E) = true) (hP : ∀ H locs, I H locs → va_P D vwCl [(h, .inl (cA, x))] H) (hnm : (eS E).vm.findClass nm2 = some cA) (hc : va_Nc nm2 nm (eS E)) (hd : decode cc pc = .ok (.instanceof idx, 3)) (e : pc + 3 = pc2)
    (k1 : ga_W E nL I ka na pc2 lo (.int 0 :: st)) : ga_W E nL I ka na pc lo (.ref h :: st) := by
  subst e
  exact fun H locs ls hI hL => va_instNo C.1 C.2 how hl hc (arr_recv (hP H locs hI) hnm) hd (k1 H locs ls hI hL)
theorem ga_castA (pc2 : Nat) (C : ga_C E cc) {own nm : String} {idx h : Nat} {cA : ClassId} {x : vp_A} (how : (eS E).vm.findClass own = some (eM E).cls) (hl : (Cond.classLink own idx nm).before (eA E) (eS E) = true) (hP : ∀ H locs, I H locs → va_P D vwCl [(h, .inl (cA, x))] H) (hnm : (eS E).vm.findClass nm = some cA) (hd : decode cc pc = .ok (.checkcast idx, 3)) (e : pc + 3 = pc2)
    (k1 : ga_W E nL I ka na pc2 lo (.ref h :: st)) : ga_W E nL I ka na pc lo (.ref h :: st) := by
  subst e
  exact fun H locs ls hI hL => va_castA C.1 C.2 how hl (hP H locs hI) 0 rfl hnm hd (k1 H locs ls hI hL)
theorem ga_alen1 (pc2 t0 : Nat) (C : ga_C E cc) {tys : List (ClassId × FieldType)} (hK : va_K D vwCl tys (eS E)) {a : Nat} {cA : ClassId} {x : vp_A} {ty : FieldType} (hP : ∀ H locs, I H locs → va_P D vwCl [(a, .inl (cA, x))] H) (ht : tys[t0]? = some (cA, ty)) (hd : decode cc pc = .ok (.arraylength, 1)) (e : pc + 1 = pc2)
    (k1 : ga_W E nL I ka na pc2 lo (.int (Int32.ofNat x.1) :: st)) : ga_W E nL I ka na pc lo (.ref a :: st) := by
  subst e
  exact fun H locs ls hI hL => va_alen C.1 C.2 hK (hP H locs hI) 0 t0 rfl ht rfl hd (k1 H locs ls hI hL)
theorem ga_a1ldb (pc2 t0 : Nat) (C : ga_C E cc) {tys : List (ClassId × FieldType)} (hK : va_K D vwCl tys (eS E)) {a n : Nat} {cA : ClassId} {f : Nat → Int32} (hP : ∀ H locs, I H locs → va_P D vwCl [(a, .inl (cA, n, .inl f))] H) (ht : tys[t0]? = some (cA, .byte)) {i : Int32} (hi : vp_in i n) (hd : decode cc pc = .ok (.baload, 1)) (e : pc + 1 = pc2)
    (k1 : ga_W E nL I ka na pc2 lo (.int (f i.toNatClampNeg) :: st)) : ga_W E nL I ka na pc lo (.int i :: .ref a :: st) := by
  subst e
  exact fun H locs ls hI hL => va_bald C.1 C.2 hK (hP H locs hI) 0 t0 rfl ht hi hd (k1 H locs ls hI hL)
theorem ga_a1lds (pc2 t0 : Nat) (C : ga_C E cc) {tys : List (ClassId × FieldType)} (hK : va_K D vwCl tys (eS E)) {a n : Nat} {cA : ClassId} {f : Nat → Int32} (hP : ∀ H locs, I H locs → va_P D vwCl [(a, .inl (cA, n, .inl f))] H) (ht : tys[t0]? = some (cA, .short)) {i : Int32} (hi : vp_in i n) (hd : decode cc pc = .ok (.saload, 1)) (e : pc + 1 = pc2)
    (k1 : ga_W E nL I ka na pc2 lo (.int (f i.toNatClampNeg) :: st)) : ga_W E nL I ka na pc lo (.int i :: .ref a :: st) := by
  subst e
  exact fun H locs ls hI hL => va_sald C.1 C.2 hK (hP H locs hI) 0 t0 rfl ht hi hd (k1 H locs ls hI hL)
theorem ga_a1ldi (pc2 t0 : Nat) (C : ga_C E cc) {tys : List (ClassId × FieldType)} (hK : va_K D vwCl tys (eS E)) {a n : Nat} {cA : ClassId} {f : Nat → Int32} (hP : ∀ H locs, I H locs → va_P D vwCl [(a, .inl (cA, n, .inl f))] H) (ht : tys[t0]? = some (cA, .int)) {i : Int32} (hi : vp_in i n) (hd : decode cc pc = .ok (.iaload, 1)) (e : pc + 1 = pc2)
    (k1 : ga_W E nL I ka na pc2 lo (.int (f i.toNatClampNeg) :: st)) : ga_W E nL I ka na pc lo (.int i :: .ref a :: st) := by
  subst e
  exact fun H locs ls hI hL => va_iald C.1 C.2 hK (hP H locs hI) 0 t0 rfl ht hi hd (k1 H locs ls hI hL)
theorem ga_a1ldl (pc2 t0 : Nat) (C : ga_C E cc) {tys : List (ClassId × FieldType)} (hK : va_K D vwCl tys (eS E)) {a n : Nat} {cA : ClassId} {f : Nat → Int64} (hP : ∀ H locs, I H locs → va_P D vwCl [(a, .inl (cA, n, .inr (.inl f)))] H) (ht : tys[t0]? = some (cA, .long)) {i : Int32} (hi : vp_in i n) (hd : decode cc pc = .ok (.laload, 1)) (e : pc + 1 = pc2)
    (k1 : ga_W E nL I ka na pc2 lo (.long (f i.toNatClampNeg) :: st)) : ga_W E nL I ka na pc lo (.int i :: .ref a :: st) := by
  subst e
  exact fun H locs ls hI hL => va_lald C.1 C.2 hK (hP H locs hI) 0 t0 rfl ht hi hd (k1 H locs ls hI hL)
end XS
theorem xk_cls {D : va_G} {kk : Nat → Nat} {U : State} (hK : va_K D vwCl (xw_tys kk) U) : U.vm.findClass "[I" = some (kk 0) ∧ U.vm.findClass "[J" = some (kk 1) ∧ U.vm.findClass "[B" = some (kk 2) ∧ U.vm.findClass "[S" = some (kk 3) := ⟨(hK.2 0 _ rfl).2, (hK.2 1 _ rfl).2, (hK.2 2 _ rfl).2, (hK.2 3 _ rfl).2⟩
theorem cd_X1_many : yX1_many.cls = "QuotedRiver$Slot" ∧ yX1_many.cls ≠ "java/lang/invoke/MethodHandle" ∧ yX1_many.cls ≠ "java/lang/invoke/VarHandle" ∧ (parseMethodDescriptor yX1_many.desc).map (fun d => d.parameters.length) = some 0 := by decide +kernel
theorem cd_X1_number : yX1_number.cls = "QuotedRiver$Slot" ∧ yX1_number.cls ≠ "java/lang/invoke/MethodHandle" ∧ yX1_number.cls ≠ "java/lang/invoke/VarHandle" ∧ (parseMethodDescriptor yX1_number.desc).map (fun d => d.parameters.length) = some 1 := by decide +kernel
set_option maxHeartbeats 4000000 in
theorem met_X1_many (l : Launch) (D : va_G) (kk : Nat → Nat) (a h n : Nat) (d : Int32) (num : Nat → Int64) (e : va_E) (he : xs_arr kk n d num e) : Met l yX1_many (ws_ yX1_many cX1_many 1 (some .int)) ({ frames := 0, cells := 0, slots := 0, locals := 0 } : Room) (va_Pc [.ref a] (fun U => va_P D vwCl [(a, .inr (2, [.ref h])), (h, e)] U.heap ∧ va_K D vwCl (xw_tys kk) U ∧ xc U)) (ps_Qc (some (.int (Int32.ofNat n)))) 0 0 (fun _ => False) := by
  refine rd_of (RX := RX1) (lo := [some (.ref a)]) (by decide) rfl (Nat.le_of_ble_eq_true rfl) rfl (fun E C hP0 hr hlk hq => ?_)
  obtain ⟨hP, hK, hN⟩ := hP0
  have hc := xk_cls hK
  rcases he with ⟨hd, f, rfl, hf⟩ | ⟨hd, f, rfl, hf⟩ | ⟨hd, f, rfl, hf⟩ | ⟨hd, f, rfl, hf⟩
  · refine ga_aload_n 1 C.c 0 rfl rfl dX1_many_0 rfl ?_
    refine ga_get1 4 0 C.c C.ts (own := RX1) (ref := RX1) C.ow hK (fun H locs h9 => by rw [h9.1]; exact hP.sub [0] rfl) in_X1 rfl (by decide) q341 (fun _ h9 => h9) rfl dX1_many_1 rfl ?_
    refine ga_instE 7 C.c (own := RX1) C.ow (C.ts _ q291) (fun H locs h9 => by rw [h9.1]; exact hP.sub [1] rfl) hc.2.2.1 dX1_many_4 rfl ?_
    refine ga_if_eq 19 10 C.c dX1_many_7 (by decide) rfl (fun c => absurd c (by decide)) (fun c => ?_)
    refine ga_aload_n 11 C.c 0 rfl rfl dX1_many_10 rfl ?_
    refine ga_get1 14 0 C.c C.ts (own := RX1) (ref := RX1) C.ow hK (fun H locs h9 => by rw [h9.1]; exact hP.sub [0] rfl) in_X1 rfl (by decide) q341 (fun _ h9 => h9) rfl dX1_many_11 rfl ?_
    refine ga_castA 17 C.c (own := RX1) C.ow (C.ts _ q291) (fun H locs h9 => by rw [h9.1]; exact hP.sub [1] rfl) hc.2.2.1 dX1_many_14 rfl ?_
    refine ga_alen1 18 2 C.c hK (fun H locs h9 => by rw [h9.1]; exact hP.sub [1] rfl) rfl dX1_many_17 rfl ?_
    exact ps_iret C hr hlk hq rfl rfl dX1_many_18
  · refine ga_aload_n 1 C.c 0 rfl rfl dX1_many_0 rfl ?_
    refine ga_get1 4 0 C.c C.ts (own := RX1) (ref := RX1) C.ow hK (fun H locs h9 => by rw [h9.1]; exact hP.sub [0] rfl) in_X1 rfl (by decide) q341 (fun _ h9 => h9) rfl dX1_many_1 rfl ?_
    refine ga_instNo 7 C.c (own := RX1) C.ow (C.ts _ q291) (fun H locs h9 => by rw [h9.1]; exact hP.sub [1] rfl) hc.2.2.2 hN.1 dX1_many_4 rfl ?_
    refine ga_if_eq 19 10 C.c dX1_many_7 (by decide) rfl (fun c => ?_) (fun c => absurd rfl c)
    refine ga_aload_n 20 C.c 0 rfl rfl dX1_many_19 rfl ?_
    refine ga_get1 23 0 C.c C.ts (own := RX1) (ref := RX1) C.ow hK (fun H locs h9 => by rw [h9.1]; exact hP.sub [0] rfl) in_X1 rfl (by decide) q341 (fun _ h9 => h9) rfl dX1_many_20 rfl ?_
    refine ga_instE 26 C.c (own := RX1) C.ow (C.ts _ q292) (fun H locs h9 => by rw [h9.1]; exact hP.sub [1] rfl) hc.2.2.2 dX1_many_23 rfl ?_
    refine ga_if_eq 38 29 C.c dX1_many_26 (by decide) rfl (fun c => absurd c (by decide)) (fun c => ?_)
    refine ga_aload_n 30 C.c 0 rfl rfl dX1_many_29 rfl ?_
    refine ga_get1 33 0 C.c C.ts (own := RX1) (ref := RX1) C.ow hK (fun H locs h9 => by rw [h9.1]; exact hP.sub [0] rfl) in_X1 rfl (by decide) q341 (fun _ h9 => h9) rfl dX1_many_30 rfl ?_
    refine ga_castA 36 C.c (own := RX1) C.ow (C.ts _ q292) (fun H locs h9 => by rw [h9.1]; exact hP.sub [1] rfl) hc.2.2.2 dX1_many_33 rfl ?_
    refine ga_alen1 37 3 C.c hK (fun H locs h9 => by rw [h9.1]; exact hP.sub [1] rfl) rfl dX1_many_36 rfl ?_
    exact ps_iret C hr hlk hq rfl rfl dX1_many_37
  · refine ga_aload_n 1 C.c 0 rfl rfl dX1_many_0 rfl ?_
    refine ga_get1 4 0 C.c C.ts (own := RX1) (ref := RX1) C.ow hK (fun H locs h9 => by rw [h9.1]; exact hP.sub [0] rfl) in_X1 rfl (by decide) q341 (fun _ h9 => h9) rfl dX1_many_1 rfl ?_
    refine ga_instNo 7 C.c (own := RX1) C.ow (C.ts _ q291) (fun H locs h9 => by rw [h9.1]; exact hP.sub [1] rfl) hc.1 hN.2.1 dX1_many_4 rfl ?_
    refine ga_if_eq 19 10 C.c dX1_many_7 (by decide) rfl (fun c => ?_) (fun c => absurd rfl c)
    refine ga_aload_n 20 C.c 0 rfl rfl dX1_many_19 rfl ?_
    refine ga_get1 23 0 C.c C.ts (own := RX1) (ref := RX1) C.ow hK (fun H locs h9 => by rw [h9.1]; exact hP.sub [0] rfl) in_X1 rfl (by decide) q341 (fun _ h9 => h9) rfl dX1_many_20 rfl ?_
    refine ga_instNo 26 C.c (own := RX1) C.ow (C.ts _ q292) (fun H locs h9 => by rw [h9.1]; exact hP.sub [1] rfl) hc.1 hN.2.2.2.1 dX1_many_23 rfl ?_
    refine ga_if_eq 38 29 C.c dX1_many_26 (by decide) rfl (fun c => ?_) (fun c => absurd rfl c)
    refine ga_aload_n 39 C.c 0 rfl rfl dX1_many_38 rfl ?_
    refine ga_get1 42 0 C.c C.ts (own := RX1) (ref := RX1) C.ow hK (fun H locs h9 => by rw [h9.1]; exact hP.sub [0] rfl) in_X1 rfl (by decide) q341 (fun _ h9 => h9) rfl dX1_many_39 rfl ?_
    refine ga_instE 45 C.c (own := RX1) C.ow (C.ts _ q311) (fun H locs h9 => by rw [h9.1]; exact hP.sub [1] rfl) hc.1 dX1_many_42 rfl ?_
    refine ga_if_eq 59 48 C.c dX1_many_45 (by decide) rfl (fun c => absurd c (by decide)) (fun c => ?_)
    refine ga_aload_n 49 C.c 0 rfl rfl dX1_many_48 rfl ?_
    refine ga_get1 52 0 C.c C.ts (own := RX1) (ref := RX1) C.ow hK (fun H locs h9 => by rw [h9.1]; exact hP.sub [0] rfl) in_X1 rfl (by decide) q341 (fun _ h9 => h9) rfl dX1_many_49 rfl ?_
    refine ga_castA 55 C.c (own := RX1) C.ow (C.ts _ q311) (fun H locs h9 => by rw [h9.1]; exact hP.sub [1] rfl) hc.1 dX1_many_52 rfl ?_
    refine ga_alen1 56 0 C.c hK (fun H locs h9 => by rw [h9.1]; exact hP.sub [1] rfl) rfl dX1_many_55 rfl ?_
    refine ga_goto 67 C.c dX1_many_56 (by decide) ?_
    exact ps_iret C hr hlk hq rfl rfl dX1_many_67
  · refine ga_aload_n 1 C.c 0 rfl rfl dX1_many_0 rfl ?_
    refine ga_get1 4 0 C.c C.ts (own := RX1) (ref := RX1) C.ow hK (fun H locs h9 => by rw [h9.1]; exact hP.sub [0] rfl) in_X1 rfl (by decide) q341 (fun _ h9 => h9) rfl dX1_many_1 rfl ?_
    refine ga_instNo 7 C.c (own := RX1) C.ow (C.ts _ q291) (fun H locs h9 => by rw [h9.1]; exact hP.sub [1] rfl) hc.2.1 hN.2.2.1 dX1_many_4 rfl ?_
    refine ga_if_eq 19 10 C.c dX1_many_7 (by decide) rfl (fun c => ?_) (fun c => absurd rfl c)
    refine ga_aload_n 20 C.c 0 rfl rfl dX1_many_19 rfl ?_
    refine ga_get1 23 0 C.c C.ts (own := RX1) (ref := RX1) C.ow hK (fun H locs h9 => by rw [h9.1]; exact hP.sub [0] rfl) in_X1 rfl (by decide) q341 (fun _ h9 => h9) rfl dX1_many_20 rfl ?_
    refine ga_instNo 26 C.c (own := RX1) C.ow (C.ts _ q292) (fun H locs h9 => by rw [h9.1]; exact hP.sub [1] rfl) hc.2.1 hN.2.2.2.2.1 dX1_many_23 rfl ?_
    refine ga_if_eq 38 29 C.c dX1_many_26 (by decide) rfl (fun c => ?_) (fun c => absurd rfl c)
    refine ga_aload_n 39 C.c 0 rfl rfl dX1_many_38 rfl ?_
    refine ga_get1 42 0 C.c C.ts (own := RX1) (ref := RX1) C.ow hK (fun H locs h9 => by rw [h9.1]; exact hP.sub [0] rfl) in_X1 rfl (by decide) q341 (fun _ h9 => h9) rfl dX1_many_39 rfl ?_
    refine ga_instNo 45 C.c (own := RX1) C.ow (C.ts _ q311) (fun H locs h9 => by rw [h9.1]; exact hP.sub [1] rfl) hc.2.1 hN.2.2.2.2.2 dX1_many_42 rfl ?_
    refine ga_if_eq 59 48 C.c dX1_many_45 (by decide) rfl (fun c => ?_) (fun c => absurd rfl c)
    refine ga_aload_n 60 C.c 0 rfl rfl dX1_many_59 rfl ?_
    refine ga_get1 63 0 C.c C.ts (own := RX1) (ref := RX1) C.ow hK (fun H locs h9 => by rw [h9.1]; exact hP.sub [0] rfl) in_X1 rfl (by decide) q341 (fun _ h9 => h9) rfl dX1_many_60 rfl ?_
    refine ga_castA 66 C.c (own := RX1) C.ow (C.ts _ q312) (fun H locs h9 => by rw [h9.1]; exact hP.sub [1] rfl) hc.2.1 dX1_many_63 rfl ?_
    refine ga_alen1 67 1 C.c hK (fun H locs h9 => by rw [h9.1]; exact hP.sub [1] rfl) rfl dX1_many_66 rfl ?_
    exact ps_iret C hr hlk hq rfl rfl dX1_many_67
set_option maxHeartbeats 4000000 in
theorem met_X1_number (l : Launch) (D : va_G) (kk : Nat → Nat) (a h n : Nat) (d : Int32) (num : Nat → Int64) (e : va_E) (he : xs_arr kk n d num e) (i : Int32) (hi : vp_in i n) : Met l yX1_number (ws_ yX1_number cX1_number 2 (some .long)) ({ frames := 0, cells := 0, slots := 0, locals := 0 } : Room) (va_Pc [.ref a, .int i] (fun U => va_P D vwCl [(a, .inr (2, [.ref h])), (h, e)] U.heap ∧ va_K D vwCl (xw_tys kk) U ∧ xc U)) (ps_Qc (some (.long (num i.toNatClampNeg)))) 0 0 (fun _ => False) := by
  refine rd_of (RX := RX1) (lo := [some (.ref a), some (.int i)]) (by decide) rfl (Nat.le_of_ble_eq_true rfl) rfl (fun E C hP0 hr hlk hq => ?_)
  obtain ⟨hP, hK, hN⟩ := hP0
  have hc := xk_cls hK
  rcases he with ⟨hd, f, rfl, hf⟩ | ⟨hd, f, rfl, hf⟩ | ⟨hd, f, rfl, hf⟩ | ⟨hd, f, rfl, hf⟩
  · refine ga_aload_n 1 C.c 0 rfl rfl dX1_number_0 rfl ?_
    refine ga_get1 4 0 C.c C.ts (own := RX1) (ref := RX1) C.ow hK (fun H locs h9 => by rw [h9.1]; exact hP.sub [0] rfl) in_X1 rfl (by decide) q341 (fun _ h9 => h9) rfl dX1_number_1 rfl ?_
    refine ga_instE 7 C.c (own := RX1) C.ow (C.ts _ q291) (fun H locs h9 => by rw [h9.1]; exact hP.sub [1] rfl) hc.2.2.1 dX1_number_4 rfl ?_
    refine ga_if_eq 21 10 C.c dX1_number_7 (by decide) rfl (fun c => absurd c (by decide)) (fun c => ?_)
    refine ga_aload_n 11 C.c 0 rfl rfl dX1_number_10 rfl ?_
    refine ga_get1 14 0 C.c C.ts (own := RX1) (ref := RX1) C.ow hK (fun H locs h9 => by rw [h9.1]; exact hP.sub [0] rfl) in_X1 rfl (by decide) q341 (fun _ h9 => h9) rfl dX1_number_11 rfl ?_
    refine ga_castA 17 C.c (own := RX1) C.ow (C.ts _ q291) (fun H locs h9 => by rw [h9.1]; exact hP.sub [1] rfl) hc.2.2.1 dX1_number_14 rfl ?_
    refine ga_iload_n 18 C.c 1 rfl rfl dX1_number_17 rfl ?_
    refine ga_a1ldb 19 2 C.c hK (fun H locs h9 => by rw [h9.1]; exact hP.sub [1] rfl) rfl hi dX1_number_18 rfl ?_
    refine ga_i2l 20 C.c dX1_number_19 rfl ?_
    exact ps_lret C hr hlk hq (congrArg Value.long (hf _ (vp_in_lt hi))) dX1_number_20
  · refine ga_aload_n 1 C.c 0 rfl rfl dX1_number_0 rfl ?_
    refine ga_get1 4 0 C.c C.ts (own := RX1) (ref := RX1) C.ow hK (fun H locs h9 => by rw [h9.1]; exact hP.sub [0] rfl) in_X1 rfl (by decide) q341 (fun _ h9 => h9) rfl dX1_number_1 rfl ?_
    refine ga_instNo 7 C.c (own := RX1) C.ow (C.ts _ q291) (fun H locs h9 => by rw [h9.1]; exact hP.sub [1] rfl) hc.2.2.2 hN.1 dX1_number_4 rfl ?_
    refine ga_if_eq 21 10 C.c dX1_number_7 (by decide) rfl (fun c => ?_) (fun c => absurd rfl c)
    refine ga_aload_n 22 C.c 0 rfl rfl dX1_number_21 rfl ?_
    refine ga_get1 25 0 C.c C.ts (own := RX1) (ref := RX1) C.ow hK (fun H locs h9 => by rw [h9.1]; exact hP.sub [0] rfl) in_X1 rfl (by decide) q341 (fun _ h9 => h9) rfl dX1_number_22 rfl ?_
    refine ga_instE 28 C.c (own := RX1) C.ow (C.ts _ q292) (fun H locs h9 => by rw [h9.1]; exact hP.sub [1] rfl) hc.2.2.2 dX1_number_25 rfl ?_
    refine ga_if_eq 42 31 C.c dX1_number_28 (by decide) rfl (fun c => absurd c (by decide)) (fun c => ?_)
    refine ga_aload_n 32 C.c 0 rfl rfl dX1_number_31 rfl ?_
    refine ga_get1 35 0 C.c C.ts (own := RX1) (ref := RX1) C.ow hK (fun H locs h9 => by rw [h9.1]; exact hP.sub [0] rfl) in_X1 rfl (by decide) q341 (fun _ h9 => h9) rfl dX1_number_32 rfl ?_
    refine ga_castA 38 C.c (own := RX1) C.ow (C.ts _ q292) (fun H locs h9 => by rw [h9.1]; exact hP.sub [1] rfl) hc.2.2.2 dX1_number_35 rfl ?_
    refine ga_iload_n 39 C.c 1 rfl rfl dX1_number_38 rfl ?_
    refine ga_a1lds 40 3 C.c hK (fun H locs h9 => by rw [h9.1]; exact hP.sub [1] rfl) rfl hi dX1_number_39 rfl ?_
    refine ga_i2l 41 C.c dX1_number_40 rfl ?_
    exact ps_lret C hr hlk hq (congrArg Value.long (hf _ (vp_in_lt hi))) dX1_number_41
  · refine ga_aload_n 1 C.c 0 rfl rfl dX1_number_0 rfl ?_
    refine ga_get1 4 0 C.c C.ts (own := RX1) (ref := RX1) C.ow hK (fun H locs h9 => by rw [h9.1]; exact hP.sub [0] rfl) in_X1 rfl (by decide) q341 (fun _ h9 => h9) rfl dX1_number_1 rfl ?_
    refine ga_instNo 7 C.c (own := RX1) C.ow (C.ts _ q291) (fun H locs h9 => by rw [h9.1]; exact hP.sub [1] rfl) hc.1 hN.2.1 dX1_number_4 rfl ?_
    refine ga_if_eq 21 10 C.c dX1_number_7 (by decide) rfl (fun c => ?_) (fun c => absurd rfl c)
    refine ga_aload_n 22 C.c 0 rfl rfl dX1_number_21 rfl ?_
    refine ga_get1 25 0 C.c C.ts (own := RX1) (ref := RX1) C.ow hK (fun H locs h9 => by rw [h9.1]; exact hP.sub [0] rfl) in_X1 rfl (by decide) q341 (fun _ h9 => h9) rfl dX1_number_22 rfl ?_
    refine ga_instNo 28 C.c (own := RX1) C.ow (C.ts _ q292) (fun H locs h9 => by rw [h9.1]; exact hP.sub [1] rfl) hc.1 hN.2.2.2.1 dX1_number_25 rfl ?_
    refine ga_if_eq 42 31 C.c dX1_number_28 (by decide) rfl (fun c => ?_) (fun c => absurd rfl c)
    refine ga_aload_n 43 C.c 0 rfl rfl dX1_number_42 rfl ?_
    refine ga_get1 46 0 C.c C.ts (own := RX1) (ref := RX1) C.ow hK (fun H locs h9 => by rw [h9.1]; exact hP.sub [0] rfl) in_X1 rfl (by decide) q341 (fun _ h9 => h9) rfl dX1_number_43 rfl ?_
    refine ga_instE 49 C.c (own := RX1) C.ow (C.ts _ q311) (fun H locs h9 => by rw [h9.1]; exact hP.sub [1] rfl) hc.1 dX1_number_46 rfl ?_
    refine ga_if_eq 65 52 C.c dX1_number_49 (by decide) rfl (fun c => absurd c (by decide)) (fun c => ?_)
    refine ga_aload_n 53 C.c 0 rfl rfl dX1_number_52 rfl ?_
    refine ga_get1 56 0 C.c C.ts (own := RX1) (ref := RX1) C.ow hK (fun H locs h9 => by rw [h9.1]; exact hP.sub [0] rfl) in_X1 rfl (by decide) q341 (fun _ h9 => h9) rfl dX1_number_53 rfl ?_
    refine ga_castA 59 C.c (own := RX1) C.ow (C.ts _ q311) (fun H locs h9 => by rw [h9.1]; exact hP.sub [1] rfl) hc.1 dX1_number_56 rfl ?_
    refine ga_iload_n 60 C.c 1 rfl rfl dX1_number_59 rfl ?_
    refine ga_a1ldi 61 0 C.c hK (fun H locs h9 => by rw [h9.1]; exact hP.sub [1] rfl) rfl hi dX1_number_60 rfl ?_
    refine ga_i2l 62 C.c dX1_number_61 rfl ?_
    refine ga_goto 74 C.c dX1_number_62 (by decide) ?_
    exact ps_lret C hr hlk hq (congrArg Value.long (hf _ (vp_in_lt hi))) dX1_number_74
  · refine ga_aload_n 1 C.c 0 rfl rfl dX1_number_0 rfl ?_
    refine ga_get1 4 0 C.c C.ts (own := RX1) (ref := RX1) C.ow hK (fun H locs h9 => by rw [h9.1]; exact hP.sub [0] rfl) in_X1 rfl (by decide) q341 (fun _ h9 => h9) rfl dX1_number_1 rfl ?_
    refine ga_instNo 7 C.c (own := RX1) C.ow (C.ts _ q291) (fun H locs h9 => by rw [h9.1]; exact hP.sub [1] rfl) hc.2.1 hN.2.2.1 dX1_number_4 rfl ?_
    refine ga_if_eq 21 10 C.c dX1_number_7 (by decide) rfl (fun c => ?_) (fun c => absurd rfl c)
    refine ga_aload_n 22 C.c 0 rfl rfl dX1_number_21 rfl ?_
    refine ga_get1 25 0 C.c C.ts (own := RX1) (ref := RX1) C.ow hK (fun H locs h9 => by rw [h9.1]; exact hP.sub [0] rfl) in_X1 rfl (by decide) q341 (fun _ h9 => h9) rfl dX1_number_22 rfl ?_
    refine ga_instNo 28 C.c (own := RX1) C.ow (C.ts _ q292) (fun H locs h9 => by rw [h9.1]; exact hP.sub [1] rfl) hc.2.1 hN.2.2.2.2.1 dX1_number_25 rfl ?_
    refine ga_if_eq 42 31 C.c dX1_number_28 (by decide) rfl (fun c => ?_) (fun c => absurd rfl c)
    refine ga_aload_n 43 C.c 0 rfl rfl dX1_number_42 rfl ?_
    refine ga_get1 46 0 C.c C.ts (own := RX1) (ref := RX1) C.ow hK (fun H locs h9 => by rw [h9.1]; exact hP.sub [0] rfl) in_X1 rfl (by decide) q341 (fun _ h9 => h9) rfl dX1_number_43 rfl ?_
    refine ga_instNo 49 C.c (own := RX1) C.ow (C.ts _ q311) (fun H locs h9 => by rw [h9.1]; exact hP.sub [1] rfl) hc.2.1 hN.2.2.2.2.2 dX1_number_46 rfl ?_
    refine ga_if_eq 65 52 C.c dX1_number_49 (by decide) rfl (fun c => ?_) (fun c => absurd rfl c)
    refine ga_aload_n 66 C.c 0 rfl rfl dX1_number_65 rfl ?_
    refine ga_get1 69 0 C.c C.ts (own := RX1) (ref := RX1) C.ow hK (fun H locs h9 => by rw [h9.1]; exact hP.sub [0] rfl) in_X1 rfl (by decide) q341 (fun _ h9 => h9) rfl dX1_number_66 rfl ?_
    refine ga_castA 72 C.c (own := RX1) C.ow (C.ts _ q312) (fun H locs h9 => by rw [h9.1]; exact hP.sub [1] rfl) hc.2.1 dX1_number_69 rfl ?_
    refine ga_iload_n 73 C.c 1 rfl rfl dX1_number_72 rfl ?_
    refine ga_a1ldl 74 1 C.c hK (fun H locs h9 => by rw [h9.1]; exact hP.sub [1] rfl) rfl hi dX1_number_73 rfl ?_
    exact ps_lret C hr hlk hq (congrArg Value.long (hf _ (vp_in_lt hi))) dX1_number_74
set_option maxHeartbeats 4000000 in
theorem met_X1_width (l : Launch) (D : va_G) (kk : Nat → Nat) (a h n : Nat) (d : Int32) (num : Nat → Int64) (e : va_E) (he : xs_arr kk n d num e) : Met l yX1_width (ws_ yX1_width cX1_width 1 (some .int)) ({ frames := 0, cells := 0, slots := 0, locals := 0 } : Room) (va_Pc [.ref a] (fun U => va_P D vwCl [(a, .inr (2, [.ref h])), (h, e)] U.heap ∧ va_K D vwCl (xw_tys kk) U ∧ xc U)) (ps_Qc (some (.int d))) 0 0 (fun _ => False) := by
  refine rd_of (RX := RX1) (lo := [some (.ref a)]) (by decide) rfl (Nat.le_of_ble_eq_true rfl) rfl (fun E C hP0 hr hlk hq => ?_)
  obtain ⟨hP, hK, hN⟩ := hP0
  have hc := xk_cls hK
  rcases he with ⟨hd, f, rfl, hf⟩ | ⟨hd, f, rfl, hf⟩ | ⟨hd, f, rfl, hf⟩ | ⟨hd, f, rfl, hf⟩
  · refine ga_aload_n 1 C.c 0 rfl rfl dX1_width_0 rfl ?_
    refine ga_get1 4 0 C.c C.ts (own := RX1) (ref := RX1) C.ow hK (fun H locs h9 => by rw [h9.1]; exact hP.sub [0] rfl) in_X1 rfl (by decide) q341 (fun _ h9 => h9) rfl dX1_width_1 rfl ?_
    refine ga_instE 7 C.c (own := RX1) C.ow (C.ts _ q291) (fun H locs h9 => by rw [h9.1]; exact hP.sub [1] rfl) hc.2.2.1 dX1_width_4 rfl ?_
    refine ga_if_eq 14 10 C.c dX1_width_7 (by decide) rfl (fun c => absurd c (by decide)) (fun c => ?_)
    refine ga_iconst 11 C.c (v := 0) (by decide) dX1_width_10 rfl ?_
    refine ga_goto 43 C.c dX1_width_11 (by decide) ?_
    exact ps_iret C hr hlk hq rfl (by rw [hd]) dX1_width_43
  · refine ga_aload_n 1 C.c 0 rfl rfl dX1_width_0 rfl ?_
    refine ga_get1 4 0 C.c C.ts (own := RX1) (ref := RX1) C.ow hK (fun H locs h9 => by rw [h9.1]; exact hP.sub [0] rfl) in_X1 rfl (by decide) q341 (fun _ h9 => h9) rfl dX1_width_1 rfl ?_
    refine ga_instNo 7 C.c (own := RX1) C.ow (C.ts _ q291) (fun H locs h9 => by rw [h9.1]; exact hP.sub [1] rfl) hc.2.2.2 hN.1 dX1_width_4 rfl ?_
    refine ga_if_eq 14 10 C.c dX1_width_7 (by decide) rfl (fun c => ?_) (fun c => absurd rfl c)
    refine ga_aload_n 15 C.c 0 rfl rfl dX1_width_14 rfl ?_
    refine ga_get1 18 0 C.c C.ts (own := RX1) (ref := RX1) C.ow hK (fun H locs h9 => by rw [h9.1]; exact hP.sub [0] rfl) in_X1 rfl (by decide) q341 (fun _ h9 => h9) rfl dX1_width_15 rfl ?_
    refine ga_instE 21 C.c (own := RX1) C.ow (C.ts _ q292) (fun H locs h9 => by rw [h9.1]; exact hP.sub [1] rfl) hc.2.2.2 dX1_width_18 rfl ?_
    refine ga_if_eq 28 24 C.c dX1_width_21 (by decide) rfl (fun c => absurd c (by decide)) (fun c => ?_)
    refine ga_iconst 25 C.c (v := 1) (by decide) dX1_width_24 rfl ?_
    refine ga_goto 43 C.c dX1_width_25 (by decide) ?_
    exact ps_iret C hr hlk hq rfl (by rw [hd]) dX1_width_43
  · refine ga_aload_n 1 C.c 0 rfl rfl dX1_width_0 rfl ?_
    refine ga_get1 4 0 C.c C.ts (own := RX1) (ref := RX1) C.ow hK (fun H locs h9 => by rw [h9.1]; exact hP.sub [0] rfl) in_X1 rfl (by decide) q341 (fun _ h9 => h9) rfl dX1_width_1 rfl ?_
    refine ga_instNo 7 C.c (own := RX1) C.ow (C.ts _ q291) (fun H locs h9 => by rw [h9.1]; exact hP.sub [1] rfl) hc.1 hN.2.1 dX1_width_4 rfl ?_
    refine ga_if_eq 14 10 C.c dX1_width_7 (by decide) rfl (fun c => ?_) (fun c => absurd rfl c)
    refine ga_aload_n 15 C.c 0 rfl rfl dX1_width_14 rfl ?_
    refine ga_get1 18 0 C.c C.ts (own := RX1) (ref := RX1) C.ow hK (fun H locs h9 => by rw [h9.1]; exact hP.sub [0] rfl) in_X1 rfl (by decide) q341 (fun _ h9 => h9) rfl dX1_width_15 rfl ?_
    refine ga_instNo 21 C.c (own := RX1) C.ow (C.ts _ q292) (fun H locs h9 => by rw [h9.1]; exact hP.sub [1] rfl) hc.1 hN.2.2.2.1 dX1_width_18 rfl ?_
    refine ga_if_eq 28 24 C.c dX1_width_21 (by decide) rfl (fun c => ?_) (fun c => absurd rfl c)
    refine ga_aload_n 29 C.c 0 rfl rfl dX1_width_28 rfl ?_
    refine ga_get1 32 0 C.c C.ts (own := RX1) (ref := RX1) C.ow hK (fun H locs h9 => by rw [h9.1]; exact hP.sub [0] rfl) in_X1 rfl (by decide) q341 (fun _ h9 => h9) rfl dX1_width_29 rfl ?_
    refine ga_instE 35 C.c (own := RX1) C.ow (C.ts _ q311) (fun H locs h9 => by rw [h9.1]; exact hP.sub [1] rfl) hc.1 dX1_width_32 rfl ?_
    refine ga_if_eq 42 38 C.c dX1_width_35 (by decide) rfl (fun c => absurd c (by decide)) (fun c => ?_)
    refine ga_iconst 39 C.c (v := 2) (by decide) dX1_width_38 rfl ?_
    refine ga_goto 43 C.c dX1_width_39 (by decide) ?_
    exact ps_iret C hr hlk hq rfl (by rw [hd]) dX1_width_43
  · refine ga_aload_n 1 C.c 0 rfl rfl dX1_width_0 rfl ?_
    refine ga_get1 4 0 C.c C.ts (own := RX1) (ref := RX1) C.ow hK (fun H locs h9 => by rw [h9.1]; exact hP.sub [0] rfl) in_X1 rfl (by decide) q341 (fun _ h9 => h9) rfl dX1_width_1 rfl ?_
    refine ga_instNo 7 C.c (own := RX1) C.ow (C.ts _ q291) (fun H locs h9 => by rw [h9.1]; exact hP.sub [1] rfl) hc.2.1 hN.2.2.1 dX1_width_4 rfl ?_
    refine ga_if_eq 14 10 C.c dX1_width_7 (by decide) rfl (fun c => ?_) (fun c => absurd rfl c)
    refine ga_aload_n 15 C.c 0 rfl rfl dX1_width_14 rfl ?_
    refine ga_get1 18 0 C.c C.ts (own := RX1) (ref := RX1) C.ow hK (fun H locs h9 => by rw [h9.1]; exact hP.sub [0] rfl) in_X1 rfl (by decide) q341 (fun _ h9 => h9) rfl dX1_width_15 rfl ?_
    refine ga_instNo 21 C.c (own := RX1) C.ow (C.ts _ q292) (fun H locs h9 => by rw [h9.1]; exact hP.sub [1] rfl) hc.2.1 hN.2.2.2.2.1 dX1_width_18 rfl ?_
    refine ga_if_eq 28 24 C.c dX1_width_21 (by decide) rfl (fun c => ?_) (fun c => absurd rfl c)
    refine ga_aload_n 29 C.c 0 rfl rfl dX1_width_28 rfl ?_
    refine ga_get1 32 0 C.c C.ts (own := RX1) (ref := RX1) C.ow hK (fun H locs h9 => by rw [h9.1]; exact hP.sub [0] rfl) in_X1 rfl (by decide) q341 (fun _ h9 => h9) rfl dX1_width_29 rfl ?_
    refine ga_instNo 35 C.c (own := RX1) C.ow (C.ts _ q311) (fun H locs h9 => by rw [h9.1]; exact hP.sub [1] rfl) hc.2.1 hN.2.2.2.2.2 dX1_width_32 rfl ?_
    refine ga_if_eq 42 38 C.c dX1_width_35 (by decide) rfl (fun c => ?_) (fun c => absurd rfl c)
    refine ga_iconst 43 C.c (v := 3) (by decide) dX1_width_42 rfl ?_
    exact ps_iret C hr hlk hq rfl (by rw [hd]) dX1_width_43
theorem cd_J12_fill : yJ12_fill.cls ≠ "java/lang/invoke/MethodHandle" ∧ yJ12_fill.cls ≠ "java/lang/invoke/VarHandle" ∧ (parseMethodDescriptor yJ12_fill.desc).map (fun d => d.parameters.length) = some 2 := by decide +kernel
def fi_II (E : gE) (D : va_G) (a : Nat) (cA : ClassId) (n : Nat) (f : Nat → Int32) : Heap → List Loc → Prop := fun H locs => va_P D vwCl [(a, .inl (cA, n, .inl f))] H ∧ va_S (fun q => q = a) (eS E).heap H locs
theorem pu_fill_sI (f : Nat → Int32) (i : Nat) (v : Int32) : upd (pu_fill f i v) i v = pu_fill f (i + 1) v := by
  funext j
  unfold pu_fill upd
  show (if j = i then v else (if j < i then v else f j)) = if j < i + 1 then v else f j
  by_cases h : j = i
  · subst h
    rw [if_pos rfl, if_pos (by omega)]
  · rw [if_neg h]
    by_cases h2 : j < i
    · rw [if_pos h2, if_pos (by omega)]
    · rw [if_neg h2, if_neg (by omega)]
theorem fi_DI (a : Nat) (cA : ClassId) (n : Nat) (f : Nat → Int32) : va_D (fun q => q = a) [(a, .inl (cA, n, .inl f))] := ⟨fun i j p q hi hj _ => by
  have h1 := (List.getElem?_eq_some_iff.mp hi).1
  have h2 := (List.getElem?_eq_some_iff.mp hj).1
  simp at h1 h2
  omega, fun k q hk => by
  cases k with
  | zero => cases hk; rfl
  | succ k => simp at hk⟩
set_option maxHeartbeats 1000000 in
theorem met_J12_fill (l : Launch) (D : va_G) (a n : Nat) (cA : ClassId) (f : Nat → Int32) (v : Int32) (hn : n < 2 ^ 31) : Met l yJ12_fill (ws_ yJ12_fill cJ12_fill 4 none) ({ frames := 0, cells := 0, slots := 0, locals := 0 } : Room) (va_Pc [.ref a, .int v] (fun U => va_P D vwCl [(a, .inl (cA, n, .inl f))] U.heap ∧ va_K D vwCl [(cA, .int)] U)) (fun _ st oc t => (oc = .returned none ∧ va_P D vwCl [(a, .inl (cA, n, .inl (pu_fill f n v)))] t.heap) ∧ va_F (fun q => q = a) st t) 0 0 (fun q => q = a) := by
  refine Met.ofW (cc := cJ12_fill) (maxL := 4) (ret := none) (by decide) rfl ?_
  intro p e s m args below meth c s₁ B hml hv
  obtain ⟨rfl, hP, hK⟩ := hv
  have hl := lv_entry [.ref a, .int v] (n := 4) (Nat.le_of_ble_eq_true rfl)
  rw [lg_entry_eq]
  obtain ⟨E, hE⟩ : ∃ E : gE, E = (p, l, e, (headSpec (ws_ yJ12_fill cJ12_fill 4 none) ({ frames := 0, cells := 0, slots := 0, locals := 0 } : Room)).room, s, m, ([.ref a, .int v] : List Value).toArray, below, meth, c, MQ below (fun _ st oc t => (oc = .returned none ∧ va_P D vwCl [(a, .inl (cA, n, .inl (pu_fill f n v)))] t.heap) ∧ va_F (fun q => q = a) st t) ([.ref a, .int v] : List Value).toArray s 0 0 (fun q => q = a)) := ⟨_, rfl⟩
  have C : ga_C E cJ12_fill := by rw [hE]; exact ⟨B.exec, B.bytes⟩
  have hK : va_K D vwCl [(cA, .int)] (eS E) := by rw [hE]; exact hK
  have K : ∀ k i : Nat, n - i = k → i ≤ n → ga_W E 4 (fi_II E D a cA n (pu_fill f i v)) 0 0 5 [some (.ref a), some (.int v), some (.int (nI i)), some (.int (nI n))] [] := by
    intro k
    induction k with
    | zero =>
      intro i hk hi
      have hin : i = n := by omega
      subst hin
      refine ga_iload_n 6 C 2 rfl rfl dJ12_fill_5 rfl ?_
      refine ga_iload_n 7 C 3 rfl rfl dJ12_fill_6 rfl ?_
      refine ga_icmp_ge 20 10 C dJ12_fill_7 (by decide) rfl (fun c => ?_) (fun c => absurd (nI_le (Nat.le_refl _) hn) c)
      exact ga_vret (Qc := fun _ st oc t => (oc = .returned none ∧ va_P D vwCl [(a, .inl (cA, i, .inl (pu_fill f i v)))] t.heap) ∧ va_F (fun q => q = a) st t) (free := fun q => q = a) C (by rw [hE]; exact B.returns) (by rw [hE]; exact B.notSynchronized) (by rw [hE]) (fun H locs hI => ⟨fun t ht hW => ⟨⟨rfl, by rw [ht]; exact hI.1⟩, hI.2.F ht⟩, hI.2.2.2⟩) dJ12_fill_20
    | succ k ih =>
      intro i hk hi
      have hlt : i < n := by omega
      refine ga_iload_n 6 C 2 rfl rfl dJ12_fill_5 rfl ?_
      refine ga_iload_n 7 C 3 rfl rfl dJ12_fill_6 rfl ?_
      refine ga_icmp_ge 20 10 C dJ12_fill_7 (by decide) rfl (fun cd => absurd cd (nI_ge hlt hn)) (fun cd => ?_)
      refine ga_aload_n 11 C 0 rfl rfl dJ12_fill_10 rfl ?_
      refine ga_iload_n 12 C 2 rfl rfl dJ12_fill_11 rfl ?_
      refine ga_iload_n 13 C 1 rfl rfl dJ12_fill_12 rfl ?_
      intro H locs ls hI hL
      refine va_iast C.1 C.2 hK hI.1 (fi_DI a cA n _) hI.2 0 0 rfl rfl (vp_in_nI hlt hn) dJ12_fill_13 (fun H1 locs1 hP1 hD1 hS1 => ?_)
      rw [nI_clamp (by omega), pu_fill_sI] at hP1
      refine (?_ : ga_W E 4 (fi_II E D a cA n (pu_fill f (i + 1) v)) 0 0 14 [some (.ref a), some (.int v), some (.int (nI i)), some (.int (nI n))] []) H1 locs1 ls ⟨hP1, hS1⟩ hL
      refine ga_iinc 17 C (v := nI (i + 1)) rfl (nI_1 i) (by decide) rfl dJ12_fill_14 rfl ?_
      refine ga_goto 5 C dJ12_fill_17 (by decide) ?_
      exact ih (i + 1) (by omega) (by omega)
  have K0 : ga_W E 4 (fi_II E D a cA n f) 0 0 0 [some (.ref a), some (.int v), none, none] [] := by
    refine ga_iconst 1 C (v := 0) (by decide) dJ12_fill_0 rfl ?_
    refine ga_istore_n 2 C 2 rfl (by decide) rfl dJ12_fill_1 rfl ?_
    refine ga_aload_n 3 C 0 rfl rfl dJ12_fill_2 rfl ?_
    refine ga_alen1 4 0 C hK (fun H locs h => h.1) rfl dJ12_fill_3 rfl ?_
    refine ga_istore_n 5 C 3 rfl (by decide) rfl dJ12_fill_4 rfl ?_
    have h0 : pu_fill f 0 v = f := by funext j; unfold pu_fill; rw [if_neg (by omega)]
    have := K n 0 rfl (Nat.zero_le _)
    rw [h0] at this
    exact ga_W.sub this (And.intro rfl (And.intro rfl (And.intro rfl (And.intro rfl trivial))))
  have K1 := K0 s.heap [] _ (by rw [hE]; exact ⟨hP, va_S.rf⟩) ⟨hl.1, hl.2.1, fun i v2 h => hl.2.2 (i, v2) (by rw [show lv_args 0 ([.ref a, .int v] : List Value) = ga_ps 0 [some (.ref a), some (.int v), none, none] from rfl]; exact (ga_ps_mem _ 0 i v2).mpr ⟨i, by omega, h⟩)⟩
  rw [hE] at K1
  exact K1
theorem cd_J12_fill_2 : yJ12_fill_2.cls ≠ "java/lang/invoke/MethodHandle" ∧ yJ12_fill_2.cls ≠ "java/lang/invoke/VarHandle" ∧ (parseMethodDescriptor yJ12_fill_2.desc).map (fun d => d.parameters.length) = some 2 := by decide +kernel
def fi_IJ (E : gE) (D : va_G) (a : Nat) (cA : ClassId) (n : Nat) (f : Nat → Int64) : Heap → List Loc → Prop := fun H locs => va_P D vwCl [(a, .inl (cA, n, .inr (.inl f)))] H ∧ va_S (fun q => q = a) (eS E).heap H locs
theorem pu_fill_sJ (f : Nat → Int64) (i : Nat) (v : Int64) : vp_updL (pu_fill f i v) i v = pu_fill f (i + 1) v := by
  funext j
  unfold pu_fill vp_updL
  show (if j = i then v else (if j < i then v else f j)) = if j < i + 1 then v else f j
  by_cases h : j = i
  · subst h
    rw [if_pos rfl, if_pos (by omega)]
  · rw [if_neg h]
    by_cases h2 : j < i
    · rw [if_pos h2, if_pos (by omega)]
    · rw [if_neg h2, if_neg (by omega)]
theorem fi_DJ (a : Nat) (cA : ClassId) (n : Nat) (f : Nat → Int64) : va_D (fun q => q = a) [(a, .inl (cA, n, .inr (.inl f)))] := ⟨fun i j p q hi hj _ => by
  have h1 := (List.getElem?_eq_some_iff.mp hi).1
  have h2 := (List.getElem?_eq_some_iff.mp hj).1
  simp at h1 h2
  omega, fun k q hk => by
  cases k with
  | zero => cases hk; rfl
  | succ k => simp at hk⟩
set_option maxHeartbeats 1000000 in
theorem met_J12_fill_2 (l : Launch) (D : va_G) (a n : Nat) (cA : ClassId) (f : Nat → Int64) (v : Int64) (hn : n < 2 ^ 31) : Met l yJ12_fill_2 (ws_ yJ12_fill_2 cJ12_fill_2 5 none) ({ frames := 0, cells := 0, slots := 0, locals := 0 } : Room) (va_Pc [.ref a, .long v] (fun U => va_P D vwCl [(a, .inl (cA, n, .inr (.inl f)))] U.heap ∧ va_K D vwCl [(cA, .long)] U)) (fun _ st oc t => (oc = .returned none ∧ va_P D vwCl [(a, .inl (cA, n, .inr (.inl (pu_fill f n v))))] t.heap) ∧ va_F (fun q => q = a) st t) 0 0 (fun q => q = a) := by
  refine Met.ofW (cc := cJ12_fill_2) (maxL := 5) (ret := none) (by decide) rfl ?_
  intro p e s m args below meth c s₁ B hml hv
  obtain ⟨rfl, hP, hK⟩ := hv
  have hl := lv_entry [.ref a, .long v] (n := 5) (Nat.le_of_ble_eq_true rfl)
  rw [lg_entry_eq]
  obtain ⟨E, hE⟩ : ∃ E : gE, E = (p, l, e, (headSpec (ws_ yJ12_fill_2 cJ12_fill_2 5 none) ({ frames := 0, cells := 0, slots := 0, locals := 0 } : Room)).room, s, m, ([.ref a, .long v] : List Value).toArray, below, meth, c, MQ below (fun _ st oc t => (oc = .returned none ∧ va_P D vwCl [(a, .inl (cA, n, .inr (.inl (pu_fill f n v))))] t.heap) ∧ va_F (fun q => q = a) st t) ([.ref a, .long v] : List Value).toArray s 0 0 (fun q => q = a)) := ⟨_, rfl⟩
  have C : ga_C E cJ12_fill_2 := by rw [hE]; exact ⟨B.exec, B.bytes⟩
  have hK : va_K D vwCl [(cA, .long)] (eS E) := by rw [hE]; exact hK
  have K : ∀ k i : Nat, n - i = k → i ≤ n → ga_W E 5 (fi_IJ E D a cA n (pu_fill f i v)) 0 0 6 [some (.ref a), some (.long v), none, some (.int (nI i)), some (.int (nI n))] [] := by
    intro k
    induction k with
    | zero =>
      intro i hk hi
      have hin : i = n := by omega
      subst hin
      refine ga_iload_n 7 C 3 rfl rfl dJ12_fill_2_6 rfl ?_
      refine ga_iload 9 C rfl dJ12_fill_2_7 rfl ?_
      refine ga_icmp_ge 22 12 C dJ12_fill_2_9 (by decide) rfl (fun c => ?_) (fun c => absurd (nI_le (Nat.le_refl _) hn) c)
      exact ga_vret (Qc := fun _ st oc t => (oc = .returned none ∧ va_P D vwCl [(a, .inl (cA, i, .inr (.inl (pu_fill f i v))))] t.heap) ∧ va_F (fun q => q = a) st t) (free := fun q => q = a) C (by rw [hE]; exact B.returns) (by rw [hE]; exact B.notSynchronized) (by rw [hE]) (fun H locs hI => ⟨fun t ht hW => ⟨⟨rfl, by rw [ht]; exact hI.1⟩, hI.2.F ht⟩, hI.2.2.2⟩) dJ12_fill_2_22
    | succ k ih =>
      intro i hk hi
      have hlt : i < n := by omega
      refine ga_iload_n 7 C 3 rfl rfl dJ12_fill_2_6 rfl ?_
      refine ga_iload 9 C rfl dJ12_fill_2_7 rfl ?_
      refine ga_icmp_ge 22 12 C dJ12_fill_2_9 (by decide) rfl (fun cd => absurd cd (nI_ge hlt hn)) (fun cd => ?_)
      refine ga_aload_n 13 C 0 rfl rfl dJ12_fill_2_12 rfl ?_
      refine ga_iload_n 14 C 3 rfl rfl dJ12_fill_2_13 rfl ?_
      refine ga_lload_n 15 C 1 rfl rfl dJ12_fill_2_14 rfl ?_
      intro H locs ls hI hL
      refine va_last C.1 C.2 hK hI.1 (fi_DJ a cA n _) hI.2 0 0 rfl rfl (vp_in_nI hlt hn) dJ12_fill_2_15 (fun H1 locs1 hP1 hD1 hS1 => ?_)
      rw [nI_clamp (by omega), pu_fill_sJ] at hP1
      refine (?_ : ga_W E 5 (fi_IJ E D a cA n (pu_fill f (i + 1) v)) 0 0 16 [some (.ref a), some (.long v), none, some (.int (nI i)), some (.int (nI n))] []) H1 locs1 ls ⟨hP1, hS1⟩ hL
      refine ga_iinc 19 C (v := nI (i + 1)) rfl (nI_1 i) (by decide) rfl dJ12_fill_2_16 rfl ?_
      refine ga_goto 6 C dJ12_fill_2_19 (by decide) ?_
      exact ih (i + 1) (by omega) (by omega)
  have K0 : ga_W E 5 (fi_IJ E D a cA n f) 0 0 0 [some (.ref a), some (.long v), none, none, none] [] := by
    refine ga_iconst 1 C (v := 0) (by decide) dJ12_fill_2_0 rfl ?_
    refine ga_istore_n 2 C 3 rfl (by decide) rfl dJ12_fill_2_1 rfl ?_
    refine ga_aload_n 3 C 0 rfl rfl dJ12_fill_2_2 rfl ?_
    refine ga_alen1 4 0 C hK (fun H locs h => h.1) rfl dJ12_fill_2_3 rfl ?_
    refine ga_istore 6 C 4 (by decide) rfl dJ12_fill_2_4 rfl ?_
    have h0 : pu_fill f 0 v = f := by funext j; unfold pu_fill; rw [if_neg (by omega)]
    have := K n 0 rfl (Nat.zero_le _)
    rw [h0] at this
    exact ga_W.sub this (And.intro rfl (And.intro rfl (And.intro rfl (And.intro rfl trivial))))
  have K1 := K0 s.heap [] _ (by rw [hE]; exact ⟨hP, va_S.rf⟩) ⟨hl.1, hl.2.1, fun i v2 h => hl.2.2 (i, v2) (by rw [show lv_args 0 ([.ref a, .long v] : List Value) = ga_ps 0 [some (.ref a), some (.long v), none, none, none] from rfl]; exact (ga_ps_mem _ 0 i v2).mpr ⟨i, by omega, h⟩)⟩
  rw [hE] at K1
  exact K1
theorem va_P_upd {D : va_G} {cl : List vw_C} {A : Nat → Prop} {p : Nat} {ws : va_W} {a : Nat} {e0 e : va_E} {H H1 : Heap} (h : va_P D cl ws H) (hD : va_D A ws) (hp : ws[p]? = some (a, e0)) (he : va_at D cl (a, e) H1) (oq : ∀ q : Nat, q < H.size → q ≠ a → H1[q]? = H[q]?) : va_P D cl (ws.set p (a, e)) H1 := by
  have hl := (List.getElem?_eq_some_iff.mp hp).1
  intro k q hk
  by_cases hkp : k = p
  · subst hkp
    rw [List.getElem?_set_self hl] at hk
    cases hk
    exact he
  · rw [List.getElem?_set_ne (Ne.symm hkp)] at hk
    exact (h k q hk).kept (oq q.1 (h k q hk).lt (fun z => hkp (hD.1 k p q (a, e0) hk hp z)))
section XH
variable {E : gE} {cc : ByteArray} {nL fr lc : Nat} {RX : String} {X : XX} {z : MS} {ka na pc : Nat} {lo : List (Option Value)} {st : List Value} {I : Heap → List Loc → Prop}
theorem ga_tsw (pt : Nat) (C : ga_C E cc) {dflt lo2 hi : Int} {offs : Array Int} {len : Nat} {x v : Int32} {k off : Int} (hd : decode cc pc = .ok (.tableswitch dflt lo2 hi offs, len)) (hx : x = v) (hv : v.toInt = k) (h1 : ¬ k < lo2) (h2 : ¬ hi < k) (ho : offs[(k - lo2).toNat]? = some off) (ht : (pc : Int) + off = (pt : Int))
    (k1 : ga_W E nL I ka na pt lo st) : ga_W E nL I ka na pc lo (.int x :: st) := by
  subst hx
  subst hv
  exact fun H locs ls hI hL => lv_tableIn C.1 C.2 hd h1 h2 ho ht (k1 H locs ls hI hL)
theorem ga_tswD (pt : Nat) (C : ga_C E cc) {dflt lo2 hi : Int} {offs : Array Int} {len : Nat} {x : Int32} (hd : decode cc pc = .ok (.tableswitch dflt lo2 hi offs, len)) (h : x.toInt < lo2 ∨ hi < x.toInt) (ht : (pc : Int) + dflt = (pt : Int))
    (k1 : ga_W E nL I ka na pt lo st) : ga_W E nL I ka na pc lo (.int x :: st) := fun H locs ls hI hL => lv_tableOut C.1 C.2 hd h ht (k1 H locs ls hI hL)
theorem cd_X2_is : yX2_is.cls = "QuotedRiver$Rivers" ∧ yX2_is.cls ≠ "java/lang/invoke/MethodHandle" ∧ yX2_is.cls ≠ "java/lang/invoke/VarHandle" ∧ (parseMethodDescriptor yX2_is.desc).map (fun d => d.parameters.length) = some 0 := by decide +kernel
set_option maxHeartbeats 1000000 in
theorem met_X2_is (l : Launch) (D : va_G) (a : Nat) (v0 v1 v2 v3 : Value) (l0 l1 l2 n : Int32) : Met l yX2_is (ws_ yX2_is cX2_is 1 (some .boolean)) ({ frames := 0, cells := 0, slots := 0, locals := 0 } : Room) (va_Pc [.ref a] (fun U => va_P D vwCl [(a, .inr (3, [v0, v1, v2, v3, .int l0, .int l1, .int l2, .int n]))] U.heap ∧ va_K D vwCl [] U)) (ps_Qc (some (.int (if n ≤ 0 then 0 else 1)))) 0 0 (fun _ => False) := by
  refine rd_of (RX := RX2) (lo := [some (.ref a)]) (by decide) rfl (Nat.le_of_ble_eq_true rfl) rfl (fun E C hP hr hlk hq => ?_)
  refine ga_aload_n 1 C.c 0 rfl rfl dX2_is_0 rfl ?_
  refine ga_get1 4 7 C.c C.ts (own := RX2) (ref := RX2) C.ow hP.2 (fun H locs h => by rw [h.1]; exact hP.1) in_X2 rfl (by decide) q414 (fun _ h => h) rfl dX2_is_1 rfl ?_
  refine ga_if_le 11 7 C.c dX2_is_4 (by decide) rfl (fun c => ?_) (fun c => ?_)
  · refine ga_iconst 12 C.c (v := 0) (by decide) dX2_is_11 rfl ?_
    exact ps_iret C hr hlk hq rfl (by rw [if_pos c]; rfl) dX2_is_12
  · refine ga_iconst 8 C.c (v := 1) (by decide) dX2_is_7 rfl ?_
    refine ga_goto 12 C.c dX2_is_8 (by decide) ?_
    exact ps_iret C hr hlk hq rfl (by rw [if_neg c]; rfl) dX2_is_12
theorem xa_ris (pc2 : Nat) (C : xw_C E cc nL fr lc RX X) {idx : Nat} (hl : Cond.methodLink RX idx yX2_is ∈ lw_all) (hf : 2 ≤ fr) (hlc : 60 ≤ lc) (hst : (st.map fun v => v.category).sum ≤ 8) (hd : decode cc pc = .ok (.invokevirtual idx, 3)) (e : pc + 3 = pc2)
    (k1 : ga_W E nL (xw_I E X z) 0 0 pc2 lo (.int (fX2_is (xp X)) :: st)) : ga_W E nL (xw_I E X z) 0 0 pc lo (.ref (xg X 15) :: st) :=
  ga_callVP pc2 (as := []) C.c C.ml C.ow C.ts (met_X2_is (eL E) (xD X) (xg X 15) _ _ _ _ _ _ _ _)
    (fun U g mk a h => ⟨h.1, va_K.moved (u := U) (U := U.calling g mk a) (Vm.Alike.refl U.vm) h.2⟩) (fun H locs hI U hU hW => ⟨by rw [hU]; exact xd_P C.rv H locs hI, va_K.moved hW.alike (C.j.1.sub [] rfl)⟩) (fun H locs hI => va_recv C.j.1 (xd_P C.rv H locs hI) (ci := 3) (q0 := 0) rfl rfl)
    (lw_V hl q998 q999 q95 q1000) cd_X2_is rfl (by rw [C.rm]; show 1 ≤ fr; omega) (by rw [C.rm]; show 20 ≤ lc; omega) (by rw [C.rm]; exact Nat.le_refl _) (by rw [C.rm]; exact Nat.le_refl _) hst hd e k1
theorem xa_smany (pc2 : Nat) (C : xw_C E cc nL fr lc RX X) {s : Nat} (hs : s < 4) (hm : ¬ pm (xp X) s = -1) {idx : Nat} (hl : Cond.methodLink RX idx yX1_many ∈ lw_all) (hf : 2 ≤ fr) (hlc : 60 ≤ lc) (hst : (st.map fun v => v.category).sum ≤ 8) (hd : decode cc pc = .ok (.invokevirtual idx, 3)) (e : pc + 3 = pc2)
    (k1 : ga_W E nL (xw_I E X z) 0 0 pc2 lo (.int (pm (xp X) s) :: st)) : ga_W E nL (xw_I E X z) 0 0 pc lo (.ref ((xS X).1 s) :: st) := by
  have hx := C.j.2.2.1.2.2 s hs
  obtain ⟨⟨hm1, hm2⟩, ea, he, hxe⟩ := hx.2 hm
  have hx1 : xd_at (xD X) (xw_A (xg X)) (eS E).heap ((xS X).1 s) (.inr (2, [.ref ((xS X).2 s)])) := by
    have := hx.1
    unfold xs_held at this
    rw [if_neg hm] at this
    exact this
  rw [hm1] at k1
  exact ga_callVP pc2 (as := []) C.c C.ml C.ow C.ts (met_X1_many (eL E) (xD X) (xk X) ((xS X).1 s) ((xS X).2 s) _ _ _ ea he)
    (fun U g mk a h => ⟨h.1, va_K.moved (u := U) (U := U.calling g mk a) (Vm.Alike.refl U.vm) h.2.1, h.2.2.moved (u := U) (U := U.calling g mk a) (Vm.Alike.refl U.vm)⟩) (fun H locs hI U hU hW => ⟨by rw [hU]; exact va_P.app (xd_P hx1 H locs hI) (xd_P hxe H locs hI), va_K.moved hW.alike C.j.1, C.j.2.2.2.2.2.moved hW.alike⟩) (fun H locs hI => va_recv C.j.1 (xd_P hx1 H locs hI) (ci := 2) (q0 := 0) rfl rfl)
    (lw_V hl q1373 q1374 q94 q1375) cd_X1_many rfl (by rw [C.rm]; show 1 ≤ fr; omega) (by rw [C.rm]; show 20 ≤ lc; omega) (by rw [C.rm]; exact Nat.le_refl _) (by rw [C.rm]; exact Nat.le_refl _) hst hd e k1
theorem xa_snum (pc2 : Nat) (C : xw_C E cc nL fr lc RX X) {s : Nat} {i : Int32} (hs : s < 4) (hm : ¬ pm (xp X) s = -1) (hi : vp_in i (pm (xp X) s).toNatClampNeg) {idx : Nat} (hl : Cond.methodLink RX idx yX1_number ∈ lw_all) (hf : 2 ≤ fr) (hlc : 60 ≤ lc) (hst : (st.map fun v => v.category).sum ≤ 8) (hd : decode cc pc = .ok (.invokevirtual idx, 3)) (e : pc + 3 = pc2)
    (k1 : ga_W E nL (xw_I E X z) 0 0 pc2 lo (.long (pn (xp X) (60 * s + i.toNatClampNeg)) :: st)) : ga_W E nL (xw_I E X z) 0 0 pc lo (.int i :: .ref ((xS X).1 s) :: st) := by
  have hx := C.j.2.2.1.2.2 s hs
  obtain ⟨⟨hm1, hm2⟩, ea, he, hxe⟩ := hx.2 hm
  have hx1 : xd_at (xD X) (xw_A (xg X)) (eS E).heap ((xS X).1 s) (.inr (2, [.ref ((xS X).2 s)])) := by
    have := hx.1
    unfold xs_held at this
    rw [if_neg hm] at this
    exact this
  exact ga_callVP pc2 (as := [.int i]) C.c C.ml C.ow C.ts (met_X1_number (eL E) (xD X) (xk X) ((xS X).1 s) ((xS X).2 s) _ _ _ ea he i hi)
    (fun U g mk a h => ⟨h.1, va_K.moved (u := U) (U := U.calling g mk a) (Vm.Alike.refl U.vm) h.2.1, h.2.2.moved (u := U) (U := U.calling g mk a) (Vm.Alike.refl U.vm)⟩) (fun H locs hI U hU hW => ⟨by rw [hU]; exact va_P.app (xd_P hx1 H locs hI) (xd_P hxe H locs hI), va_K.moved hW.alike C.j.1, C.j.2.2.2.2.2.moved hW.alike⟩) (fun H locs hI => va_recv C.j.1 (xd_P hx1 H locs hI) (ci := 2) (q0 := 0) rfl rfl)
    (lw_V hl q1377 q1378 q94 q1379) cd_X1_number rfl (by rw [C.rm]; show 1 ≤ fr; omega) (by rw [C.rm]; show 21 ≤ lc; omega) (by rw [C.rm]; exact Nat.le_refl _) (by rw [C.rm]; exact Nat.le_refl _) hst hd e k1
theorem xa_fill (pc2 k q n : Nat) (C : xw_C E cc nL fr lc RX X) {v : Int32} (hn : n < 2 ^ 31) (ha : (xw_f (xg X) (xk X) z)[q]? = some (xg X q, .inl (xk X 0, n, .inl (ma z k)))) (hs : (xw_f (xg X) (xk X) z).set q (xg X q, .inl (xk X 0, n, .inl (pu_fill (ma z k) n v))) = xw_f (xg X) (xk X) (msf z k n v)) {idx : Nat} (hl : Cond.methodLink RX idx yJ12_fill ∈ lw_all) (hf : 1 ≤ fr) (hlc : 60 ≤ lc) (hst : (st.map fun v => v.category).sum ≤ 8) (hd : decode cc pc = .ok (.invokestatic idx, 3)) (e : pc + 3 = pc2)
    (k1 : ga_W E nL (xw_I E X (msf z k n v)) 0 0 pc2 lo st) : ga_W E nL (xw_I E X z) 0 0 pc lo (.int v :: .ref (xg X q) :: st) := by
  subst e
  intro H locs ls hI hL T hT S
  have cw := va_cwS (R := eR E) (s := eS E) (args := eA E) (own := RX) (index := idx) (y := yJ12_fill) (bytes := cJ12_fill) (maxL := 4) (ret := none) (rm := ({ frames := 0, cells := 0, slots := 0, locals := 0 } : Room)) (mc := 0) (ms := 0) 2 C.ts (lw_S hl q1064 q115 q1065) rfl rfl rfl cd_J12_fill (by rw [C.rm]; show 1 ≤ fr ∧ 8 + (4 + 11) + 0 ≤ lc; omega)
  have hP1 : va_P (xD X) vwCl [(xg X q, .inl (xk X 0, n, .inl (ma z k)))] H := hI.1.sub [q] (by simp [ha])
  obtain ⟨v2, st0, t, T2, L, h0, X2, hL2, e1, e2, ⟨⟨hv, hP2⟩, hF⟩, stp⟩ := va_runS (S := (⟨C.c.1, C.c.2, C.ml, C.ow, C.ts⟩ : CallFix (eP E) (eM E) (eC E) cc nL (eS E) (eA E) lw_all RX)) (met_J12_fill (eL E) (xD X) (xg X q) n (xk X 0) _ v hn) cw ⟨fun a U g mk z => ⟨z.1, z.2.1, va_K.moved (u := U) (U := U.calling g mk a) (Vm.Alike.refl U.vm) z.2.2⟩, fun U hU hW => ⟨rfl, by rw [hU]; exact hP1, va_K.moved hW.alike (C.j.1.sub [0] rfl)⟩⟩ (As := [.ref (xg X q), .int v]) (g := F0 (eM E) pc ls (.int v :: .ref (xg X q) :: st)) (rest := st) rfl rfl hL.1 rfl (lv_room hst) hd (by rw [C.rm]; exact ⟨Nat.le_refl _, Nat.le_refl _⟩) T hT S
  cases hv
  have hAq : xw_A (xg X) (xg X q) := (C.j.2.1 z).2 q _ ha
  have hz := hF.1
  have hk := hF.2
  rw [h0] at hz hk
  have hP3 : va_P (xD X) vwCl (xw_f (xg X) (xk X) (msf z k n v)) T2.heap := by
    rw [e1, ← hs]
    exact va_P_upd hI.1 (C.j.2.1 z) ha (hP2 0 _ rfl) (fun x hx hne => hk x hx hne)
  have hS3 : va_S (xw_A (xg X)) (eS E).heap T2.heap (locs ++ L) := ga_step hI.2 h0 e1 ⟨hF.1, fun x h1 h2 => hF.2 x h1 (fun hxe => h2 (by rw [hxe]; exact hAq))⟩ (fun x hx => by rw [hL2 x hx]; exact hAq)
  obtain ⟨t2, a1, b1⟩ := k1 T2.heap (locs ++ L) ls ⟨hP3, hS3⟩ hL T2 rfl X2
  exact ⟨t2, stp t2 a1, b1⟩
theorem xa_fillJ (pc2 k q n : Nat) (C : xw_C E cc nL fr lc RX X) {v : Int64} (hn : n < 2 ^ 31) (ha : (xw_f (xg X) (xk X) z)[q]? = some (xg X q, .inl (xk X 1, n, .inr (.inl (ml z k))))) (hs : (xw_f (xg X) (xk X) z).set q (xg X q, .inl (xk X 1, n, .inr (.inl (pu_fill (ml z k) n v)))) = xw_f (xg X) (xk X) (mslf z k n v)) {idx : Nat} (hl : Cond.methodLink RX idx yJ12_fill_2 ∈ lw_all) (hf : 1 ≤ fr) (hlc : 60 ≤ lc) (hst : (st.map fun v => v.category).sum ≤ 8) (hd : decode cc pc = .ok (.invokestatic idx, 3)) (e : pc + 3 = pc2)
    (k1 : ga_W E nL (xw_I E X (mslf z k n v)) 0 0 pc2 lo st) : ga_W E nL (xw_I E X z) 0 0 pc lo (.long v :: .ref (xg X q) :: st) := by
  subst e
  intro H locs ls hI hL T hT S
  have cw := va_cwS (R := eR E) (s := eS E) (args := eA E) (own := RX) (index := idx) (y := yJ12_fill_2) (bytes := cJ12_fill_2) (maxL := 5) (ret := none) (rm := ({ frames := 0, cells := 0, slots := 0, locals := 0 } : Room)) (mc := 0) (ms := 0) 2 C.ts (lw_S hl q1235 q115 q1236) rfl rfl rfl cd_J12_fill_2 (by rw [C.rm]; show 1 ≤ fr ∧ 8 + (5 + 11) + 0 ≤ lc; omega)
  have hP1 : va_P (xD X) vwCl [(xg X q, .inl (xk X 1, n, .inr (.inl (ml z k))))] H := hI.1.sub [q] (by simp [ha])
  obtain ⟨v2, st0, t, T2, L, h0, X2, hL2, e1, e2, ⟨⟨hv, hP2⟩, hF⟩, stp⟩ := va_runS (S := (⟨C.c.1, C.c.2, C.ml, C.ow, C.ts⟩ : CallFix (eP E) (eM E) (eC E) cc nL (eS E) (eA E) lw_all RX)) (met_J12_fill_2 (eL E) (xD X) (xg X q) n (xk X 1) _ v hn) cw ⟨fun a U g mk z => ⟨z.1, z.2.1, va_K.moved (u := U) (U := U.calling g mk a) (Vm.Alike.refl U.vm) z.2.2⟩, fun U hU hW => ⟨rfl, by rw [hU]; exact hP1, va_K.moved hW.alike (C.j.1.sub [1] rfl)⟩⟩ (As := [.ref (xg X q), .long v]) (g := F0 (eM E) pc ls (.long v :: .ref (xg X q) :: st)) (rest := st) rfl rfl hL.1 rfl (lv_room hst) hd (by rw [C.rm]; exact ⟨Nat.le_refl _, Nat.le_refl _⟩) T hT S
  cases hv
  have hAq : xw_A (xg X) (xg X q) := (C.j.2.1 z).2 q _ ha
  have hz := hF.1
  have hk := hF.2
  rw [h0] at hz hk
  have hP3 : va_P (xD X) vwCl (xw_f (xg X) (xk X) (mslf z k n v)) T2.heap := by
    rw [e1, ← hs]
    exact va_P_upd hI.1 (C.j.2.1 z) ha (hP2 0 _ rfl) (fun x hx hne => hk x hx hne)
  have hS3 : va_S (xw_A (xg X)) (eS E).heap T2.heap (locs ++ L) := ga_step hI.2 h0 e1 ⟨hF.1, fun x h1 h2 => hF.2 x h1 (fun hxe => h2 (by rw [hxe]; exact hAq))⟩ (fun x hx => by rw [hL2 x hx]; exact hAq)
  obtain ⟨t2, a1, b1⟩ := k1 T2.heap (locs ++ L) ls ⟨hP3, hS3⟩ hL T2 rfl X2
  exact ⟨t2, stp t2 a1, b1⟩
theorem xa_copy (pc2 : Nat) (C : xw_C E cc nL fr lc RX X) {idx : Nat} (hl : Cond.methodLink RX idx arraycopyName ∈ lw_all) (hf : 1 ≤ fr) (hlc : 60 ≤ lc) (hst : (st.map fun v => v.category).sum ≤ 8) (hd : decode cc pc = .ok (.invokestatic idx, 3)) (e : pc + 3 = pc2)
    (k1 : ga_W E nL (xw_I E X (mslc z)) 0 0 pc2 lo st) : ga_W E nL (xw_I E X z) 0 0 pc lo (.int 2000 :: .int 0 :: .ref (xg X 11) :: .int 0 :: .ref (xg X 12) :: st) := by
  subst e
  intro H locs ls hI hL
  refine va_copyl C.c.1 C.c.2 (C.ml.trans hL.1.symm) C.ow (C.ts _ hl) (C.ts _ q328) (C.ts _ q327) (C.ts _ q116) C.j.1 hI.1 (C.j.2.1 z) hI.2 12 11 1 1 (ha0 := rfl) (ha1 := rfl) rfl rfl (ty := .long) rfl (sp := 0) (dp := 0) (n := 2000) (by decide) (by decide) (by decide) (by decide) (by decide) (fun i hi => rfl) (by rw [C.rm]; exact hf) ?_ hd (fun H1 locs1 hP hD hS => k1 H1 locs1 ls ⟨mw_put_e hP rfl, hS⟩ hL)
  rw [C.rm]
  have : nativeFrameWords "java/lang/System" "arraycopy" 5 + 11 ≤ 40 := by decide
  show _ ≤ lc
  omega
end XH
/-- power(a, n) and common(a, b) with a bound on the depth -/
def pu_pow : Nat → Int64 → Int32 → Option Int64
  | 0, _, _ => none
  | k + 1, a, n => if n = 0 then some 1 else pu_b1 (pu_pow k a (n - 1)) fun v => some (a * v)
def pu_gcd : Nat → Int64 → Int64 → Option Int64
  | 0, _, _ => none
  | k + 1, a, b => if b = 0 then some a else pu_gcd k b (a - a / b * b)
def fX0_power (a : Int64) (n : Int32) : Option Int64 := pu_pow 20 a n
def fX0_common (a b : Int64) : Option Int64 := pu_gcd 130 a b
theorem cd_X0_power : yX0_power.cls ≠ "java/lang/invoke/MethodHandle" ∧ yX0_power.cls ≠ "java/lang/invoke/VarHandle" ∧ (parseMethodDescriptor yX0_power.desc).map (fun d => d.parameters.length) = some 2 := by decide +kernel
theorem cd_X0_common : yX0_common.cls ≠ "java/lang/invoke/MethodHandle" ∧ yX0_common.cls ≠ "java/lang/invoke/VarHandle" ∧ (parseMethodDescriptor yX0_common.desc).map (fun d => d.parameters.length) = some 2 := by decide +kernel
theorem pow_met : ∀ (k : Nat) (l : Launch) (a : Int64) (n : Int32) (r : Int64), pu_pow k a n = some r → ∀ fr lc : Nat, k ≤ fr → 40 * k ≤ lc → Met l yX0_power (ws_ yX0_power cX0_power 3 (some .long)) ({ frames := fr, cells := 0, slots := 0, locals := lc } : Room) (ps_Pc [.long a, .int n]) (ps_Qc (some (.long r))) 0 0 (fun _ => False) := by
  intro k
  induction k with
  | zero => intro l a n r hf; cases hf
  | succ k ih =>
    intro l a n r hf fr lc h1 h2
    unfold pu_pow at hf
    refine ps_of (RX := RX0) (lo := [some (.long a), none, some (.int n)]) (by decide) rfl (Nat.le_of_ble_eq_true rfl) rfl (fun E C hr hlk hq => ?_)
    refine ga_iload_n 1 C.c 2 rfl rfl dX0_power_0 rfl ?_
    refine ga_if_ne 8 4 C.c dX0_power_1 (by decide) rfl (fun c => ?_) (fun c => ?_)
    · have hf := pu_neg c hf
      obtain ⟨v, hv, hf⟩ := pu_b1_w hf
      refine ga_lload_n 9 C.c 0 rfl rfl dX0_power_8 rfl ?_
      refine ga_lload_n 10 C.c 0 rfl rfl dX0_power_9 rfl ?_
      refine ga_iload_n 11 C.c 2 rfl rfl dX0_power_10 rfl ?_
      refine ga_iconst 12 C.c (v := 1) (by decide) dX0_power_11 rfl ?_
      refine ga_isub 13 C.c dX0_power_12 rfl ?_
      refine ps_callS 16 C (as := [.long a, .int (n - 1)]) (ih (eL E) a (n - 1) v hv k (40 * k) (Nat.le_refl _) (Nat.le_refl _)) (lw_S q1239 q1240 q93 q1241) cd_X0_power rfl (by omega) (by omega) (Nat.le_of_ble_eq_true rfl) dX0_power_13 rfl ?_
      refine ga_lmul 17 C.c dX0_power_16 rfl ?_
      cases hf
      exact ps_lret C hr hlk hq rfl dX0_power_17
    · have hf := pu_pos c hf
      refine ga_lconst 5 C.c (v := 1) (by decide) dX0_power_4 rfl ?_
      refine ga_goto 17 C.c dX0_power_5 (by decide) ?_
      cases hf
      exact ps_lret C hr hlk hq rfl dX0_power_17
theorem gcd_met : ∀ (k : Nat) (l : Launch) (a b r : Int64), pu_gcd k a b = some r → ∀ fr lc : Nat, k ≤ fr → 40 * k ≤ lc → Met l yX0_common (ws_ yX0_common cX0_common 4 (some .long)) ({ frames := fr, cells := 0, slots := 0, locals := lc } : Room) (ps_Pc [.long a, .long b]) (ps_Qc (some (.long r))) 0 0 (fun _ => False) := by
  intro k
  induction k with
  | zero => intro l a n r hf; cases hf
  | succ k ih =>
    intro l a b r hf fr lc h1 h2
    unfold pu_gcd at hf
    refine ps_of (RX := RX0) (lo := [some (.long a), none, some (.long b), none]) (by decide) rfl (Nat.le_of_ble_eq_true rfl) rfl (fun E C hr hlk hq => ?_)
    refine ga_lload_n 1 C.c 2 rfl rfl dX0_common_0 rfl ?_
    refine ga_lconst 2 C.c (v := 0) (by decide) dX0_common_1 rfl ?_
    refine ga_lcmp 3 C.c dX0_common_2 rfl ?_
    refine ga_if_ne 10 6 C.c dX0_common_3 (by decide) rfl (fun c => ?_) (fun c => ?_)
    · have c : ¬ b = 0 := fun q => c ((lg_cmp_eq b 0).mpr q)
      have hf := pu_neg c hf
      refine ga_lload_n 11 C.c 2 rfl rfl dX0_common_10 rfl ?_
      refine ga_lload_n 12 C.c 0 rfl rfl dX0_common_11 rfl ?_
      refine ga_lload_n 13 C.c 2 rfl rfl dX0_common_12 rfl ?_
      refine ga_lrem 14 C.c c dX0_common_13 rfl ?_
      refine ps_callS 17 C (as := [.long b, .long (a - a / b * b)]) (ih (eL E) b (a - a / b * b) r hf k (40 * k) (Nat.le_refl _) (Nat.le_refl _)) (lw_S q1242 q1243 q93 q1244) cd_X0_common rfl (by omega) (by omega) (Nat.le_of_ble_eq_true rfl) dX0_common_14 rfl ?_
      exact ps_lret C hr hlk hq rfl dX0_common_17
    · have c : b = 0 := (lg_cmp_eq b 0).mp c
      have hf := pu_pos c hf
      refine ga_lload_n 7 C.c 0 rfl rfl dX0_common_6 rfl ?_
      refine ga_goto 17 C.c dX0_common_7 (by decide) ?_
      cases hf
      exact ps_lret C hr hlk hq rfl dX0_common_17
theorem met_X0_power (l : Launch) (a : Int64) (n : Int32) (r : Int64) (hf : fX0_power a n = some r) : Met l yX0_power (ws_ yX0_power cX0_power 3 (some .long)) ({ frames := 20, cells := 0, slots := 0, locals := 800 } : Room) (ps_Pc [.long a, .int n]) (ps_Qc (some (.long r))) 0 0 (fun _ => False) := pow_met 20 l a n r hf 20 800 (Nat.le_refl _) (Nat.le_refl _)
theorem met_X0_common (l : Launch) (a b r : Int64) (hf : fX0_common a b = some r) : Met l yX0_common (ws_ yX0_common cX0_common 4 (some .long)) ({ frames := 130, cells := 0, slots := 0, locals := 5200 } : Room) (ps_Pc [.long a, .long b]) (ps_Qc (some (.long r))) 0 0 (fun _ => False) := gcd_met 130 l a b r hf 130 5200 (Nat.le_refl _) (Nat.le_refl _)
