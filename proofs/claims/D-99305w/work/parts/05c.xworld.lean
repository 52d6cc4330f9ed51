set_option maxRecDepth 100000
/-! the component's world. z: the transient state (an MS: ints, arrays of ints and bytes, arrays of longs, by numbers of its own); X: all that stays through a question: D, the fixed addresses g, the array classes kk, the rivers' ghost G, the slots' ghost S, the lasting values p -/
abbrev PS : Type := (Nat → Nat → Int32) × (Nat → Int64)
/-- the row of rivers: 0 level, 1 odds, 2 swell, 3 .. 6 how many reaches, joins, rains, acts, 7 lines, 8 + 3 r reaches, 38 + 4 j joins, 58 + 2 k rains, 68 + i acts -/
def pw (p : PS) (k : Nat) : Int32 := p.1 0 k
def pm (p : PS) (k : Nat) : Int32 := p.1 3 k
def pd (p : PS) (k : Nat) : Int32 := p.1 4 k
def pn (p : PS) (k : Nat) : Int64 := p.2 k
/-- a rivers object's ghost: addresses (0 reaches, 1 joins, 2 rains, 3 acts, 4 the acts' rains, 7 the four lists, 8 their arrays), capacities, counts of changes, what the arrays hold -/
abbrev XG : Type := (Nat → Nat → Nat) × (Nat → Nat) × (Nat → Int32) × (Nat → Nat → Option Nat)
abbrev XL : Type := (Nat → Nat) × (Nat → Nat)
abbrev XX : Type := va_G × (Nat → Nat) × (Nat → Nat) × XG × XL × PS
abbrev xD (X : XX) : va_G := X.1
abbrev xg (X : XX) : Nat → Nat := X.2.1
abbrev xk (X : XX) : Nat → Nat := X.2.2.1
abbrev xG (X : XX) : XG := X.2.2.2.1
abbrev xS (X : XX) : XL := X.2.2.2.2.1
abbrev xp (X : XX) : PS := X.2.2.2.2.2
def xw_f (g kk : Nat → Nat) (z : MS) : va_W := [(g 0, .inr (0, [.ref (g 13), .ref (g 15), .ref (g 14), .ref (g 1), .int (mi z 0), .int (mi z 1), .int (mi z 2), .ref (g 2), .ref (g 5), .ref (g 7), .int (mi z 3), .ref (g 9), .int (mi z 4), .ref (g 11), .ref (g 12)])), (g 1, .inl (kk 2, 700, .inl (ma z 0))), (g 2, .inr (4, [.ref (g 3), .ref (g 4), .int (mi z 5), .int (mi z 6), .int (mi z 7), .int (mi z 8), .int (mi z 9), .int (mi z 10), .ref (g 0)])), (g 3, .inl (kk 0, 61, .inl (ma z 1))), (g 4, .inl (kk 0, 61, .inl (ma z 2))), (g 5, .inr (5, [.ref (g 6), .int (mi z 11), .int (mi z 12), .int (mi z 13), .int (mi z 14), .int (mi z 15), .int (mi z 16), .int (mi z 17), .ref (g 0)])), (g 6, .inl (kk 0, 61, .inl (ma z 3))), (g 7, .inr (5, [.ref (g 8), .int (mi z 21), .int (mi z 22), .int (mi z 23), .int (mi z 24), .int (mi z 25), .int (mi z 26), .int (mi z 27), .ref (g 0)])), (g 8, .inl (kk 0, 61, .inl (ma z 13))), (g 9, .inr (6, [.ref (g 10), .int (mi z 31), .int (mi z 32), .int (mi z 33), .int (mi z 34), .int (mi z 35), .ref (g 0)])), (g 10, .inl (kk 0, 793, .inl (ma z 5))), (g 11, .inl (kk 1, 2000, .inr (.inl (ml z 0)))), (g 12, .inl (kk 1, 2000, .inr (.inl (ml z 1))))]
def xw_tys (kk : Nat → Nat) : List (ClassId × FieldType) := [(kk 0, .int), (kk 1, .long), (kk 2, .byte), (kk 3, .short), (kk 4, .object "QuotedRiver$Slot"), (kk 5, .object "java/lang/Object"), (kk 6, .object "QuotedRiver$Rivers")]
def xw_A (g : Nat → Nat) : Nat → Prop := fun q => ∃ k, k < 13 ∧ q = g k
/-- a cell that the heap holds, and that isn't among those that may change -/
def xd_at (D : va_G) (A : Nat → Prop) (H : Heap) (a : Nat) (e : va_E) : Prop := va_at D vwCl (a, e) H ∧ ¬ A a
theorem xd_at.kept {D : va_G} {A : Nat → Prop} {H H1 : Heap} {a : Nat} {e : va_E} (h : xd_at D A H a e) (hq : ∀ q : Nat, q < H.size → ¬ A q → H1[q]? = H[q]?) : xd_at D A H1 a e := ⟨h.1.kept (hq a h.1.lt h.2), h.2⟩
theorem xd_at.narrow {D : va_G} {A B : Nat → Prop} {H : Heap} {a : Nat} {e : va_E} (h : xd_at D A H a e) (hAB : ∀ q, B q → A q) : xd_at D B H a e := ⟨h.1, fun q => h.2 (hAB _ q)⟩
def xr_n (w : Nat → Int32) (i : Nat) : Nat := (w (3 + i)).toNatClampNeg
/-- the cells of one act, by its number c -/
def xr_act (D : va_G) (A : Nat → Prop) (H : Heap) (G : XG) (c : Int32) (i : Nat) : Prop :=
  (100 ≤ c → xd_at D A H (G.1 3 i) (.inr (12, [.int (-1), .int (-1), .ref (G.1 4 i)])) ∧ xd_at D A H (G.1 4 i) (.inr (11, [.int (c - c / 100 * 100), .int (c / 100 - 1)]))) ∧
  (¬ 100 ≤ c → xd_at D A H (G.1 3 i) (.inr (12, [.int (c / 2), .int (c - c / 2 * 2), .null])))
/-- a rivers object at a, with all that hangs on it, is the row w -/
def xr (D : va_G) (kk : Nat → Nat) (A : Nat → Prop) (H : Heap) (a : Nat) (G : XG) (w : Nat → Int32) : Prop :=
  xd_at D A H a (.inr (3, [.ref (G.1 7 0), .ref (G.1 7 1), .ref (G.1 7 2), .ref (G.1 7 3), .int (w 0), .int (w 1), .int (w 2), .int (w 7)])) ∧
  (∀ i, i < 4 → xd_at D A H (G.1 7 i) (.inr (13, [.int (G.2.2.1 i), .ref (G.1 8 i), .int (w (3 + i))]))) ∧
  (∀ i, i < 4 → xd_at D A H (G.1 8 i) (.inl (kk 5, G.2.1 i, .inr (.inr (.inr (.inr (G.2.2.2 i))))))) ∧
  (∀ i, i < 4 → w (3 + i) = Int32.ofNat (xr_n w i) ∧ xr_n w i < 2 ^ 31 ∧ xr_n w i ≤ G.2.1 i ∧ ∀ j, j < xr_n w i → G.2.2.2 i j = some (G.1 i j)) ∧
  (∀ j, j < xr_n w 0 → xd_at D A H (G.1 0 j) (.inr (9, [.int (w (8 + 3 * j)), .int (w (9 + 3 * j)), .int (w (10 + 3 * j))]))) ∧
  (∀ j, j < xr_n w 1 → xd_at D A H (G.1 1 j) (.inr (10, [.int (w (38 + 4 * j)), .int (w (39 + 4 * j)), .int (w (40 + 4 * j)), .int (w (41 + 4 * j))]))) ∧
  (∀ j, j < xr_n w 2 → xd_at D A H (G.1 2 j) (.inr (11, [.int (w (58 + 2 * j)), .int (w (59 + 2 * j))]))) ∧
  (∀ j, j < xr_n w 3 → xr_act D A H G (w (68 + j)) j)
theorem xr.kept {D : va_G} {kk : Nat → Nat} {A : Nat → Prop} {H H1 : Heap} {a : Nat} {G : XG} {w : Nat → Int32} (h : xr D kk A H a G w) (hq : ∀ q : Nat, q < H.size → ¬ A q → H1[q]? = H[q]?) : xr D kk A H1 a G w := by
  obtain ⟨h1, h2, h3, h4, h5, h6, h7, h8⟩ := h
  exact ⟨h1.kept hq, fun i hi => (h2 i hi).kept hq, fun i hi => (h3 i hi).kept hq, h4, fun j hj => (h5 j hj).kept hq, fun j hj => (h6 j hj).kept hq, fun j hj => (h7 j hj).kept hq, fun j hj => ⟨fun c => ⟨((h8 j hj).1 c).1.kept hq, ((h8 j hj).1 c).2.kept hq⟩, fun c => ((h8 j hj).2 c).kept hq⟩⟩
/-- what a slot holds: nothing (many = -1), or a row of numbers of its width -/
def xs_arr (kk : Nat → Nat) (n : Nat) (d : Int32) (num : Nat → Int64) (e : va_E) : Prop :=
  (d = 0 ∧ ∃ f : Nat → Int32, e = .inl (kk 2, n, .inl f) ∧ ∀ i, i < n → (f i).toInt64 = num i) ∨ (d = 1 ∧ ∃ f : Nat → Int32, e = .inl (kk 3, n, .inl f) ∧ ∀ i, i < n → (f i).toInt64 = num i) ∨
  (d = 2 ∧ ∃ f : Nat → Int32, e = .inl (kk 0, n, .inl f) ∧ ∀ i, i < n → (f i).toInt64 = num i) ∨ (d = 3 ∧ ∃ f : Nat → Int64, e = .inl (kk 1, n, .inr (.inl f)) ∧ ∀ i, i < n → f i = num i)
def xs_held (S : XL) (p : PS) (s : Nat) : Value := if pm p s = -1 then .null else .ref (S.2 s)
def xs (D : va_G) (kk : Nat → Nat) (A : Nat → Prop) (H : Heap) (a : Nat) (S : XL) (p : PS) : Prop :=
  xd_at D A H a (.inl (kk 4, 4, .inr (.inr (.inr (.inr (fun i => some (S.1 i))))))) ∧
  ∀ s, s < 4 → xd_at D A H (S.1 s) (.inr (2, [xs_held S p s])) ∧ (pm p s ≠ -1 → (pm p s = Int32.ofNat (pm p s).toNatClampNeg ∧ (pm p s).toNatClampNeg ≤ 60) ∧ ∃ e, xs_arr kk (pm p s).toNatClampNeg (pd p s) (fun i => pn p (60 * s + i)) e ∧ xd_at D A H (S.2 s) e)
theorem xs.kept {D : va_G} {kk : Nat → Nat} {A : Nat → Prop} {H H1 : Heap} {a : Nat} {S : XL} {p : PS} (h : xs D kk A H a S p) (hq : ∀ q : Nat, q < H.size → ¬ A q → H1[q]? = H[q]?) : xs D kk A H1 a S p :=
  ⟨h.1.kept hq, fun s hs => ⟨(h.2 s hs).1.kept hq, fun hm => ⟨((h.2 s hs).2 hm).1, by
    obtain ⟨e, h1, h2⟩ := ((h.2 s hs).2 hm).2
    exact ⟨e, h1, h2.kept hq⟩⟩⟩⟩
def xd (X : XX) (A : Nat → Prop) (H : Heap) : Prop := xr (xD X) (xk X) A H (xg X 15) (xG X) ((xp X).1 0) ∧ xs (xD X) (xk X) A H (xg X 13) (xS X) (xp X)
theorem xd.kept {X : XX} {A : Nat → Prop} {H H1 : Heap} (h : xd X A H) (hq : ∀ q : Nat, q < H.size → ¬ A q → H1[q]? = H[q]?) : xd X A H1 := ⟨h.1.kept hq, h.2.kept hq⟩
/-- the nest mates' words -/
def xn_w : Cond → Bool
  | .fieldLinkNest _ _ _ _ _ _ => true
  | .methodLinkNest _ _ _ _ => true
  | _ => false
def xn (U : State) : Prop := ∀ w ∈ lw_tbl, xn_w w = true → va_Nw w U
theorem xn.warm {s U : State} (h : xn s) (hW : s.WarmedH U.vm) : xn U := by
  intro w hw hx
  have h1 := h w hw hx
  unfold xn_w at hx
  split at hx
  · exact va_Nw.warmF hW h1
  · exact va_Nw.warmM hW h1
  · cases hx
theorem xn.vm {s U : State} (h : xn s) (hv : s.vm = U.vm) : xn U := by
  intro w hw hx
  have h1 := h w hw hx
  unfold xn_w at hx
  split at hx
  · exact va_Nw.same rfl hv h1
  · exact va_Nw.same rfl hv h1
  · cases hx
theorem xn.use {U : State} (h : xn U) {A : Array Value} {w : Cond} (hw : w ∈ lw_tbl) (hx : xn_w w = true) : w.before A U = true := by
  have h1 := h w hw hx
  unfold xn_w at hx
  split at hx
  · exact va_Nw.use rfl h1
  · exact va_Nw.use rfl h1
  · cases hx
abbrev yL_size : MethodName := ⟨"java/util/List", "size", "()I"⟩
abbrev yL_get : MethodName := ⟨"java/util/List", "get", "(I)Ljava/lang/Object;"⟩
abbrev yL_isEmpty : MethodName := ⟨"java/util/List", "isEmpty", "()Z"⟩
/-- the calls through the list's interface -/
def xf (U : State) : Prop := va_Fw "java/util/ArrayList" yL_size yJ2_size U ∧ va_Fw "java/util/ArrayList" yL_get yJ2_get U ∧ va_Fw "java/util/ArrayList" yL_isEmpty yJ2_isEmpty U
theorem xf.moved {u U : State} (h : xf u) (hvm : u.vm.Alike U.vm) : xf U := ⟨va_Fw.moved ⟨by decide, by decide⟩ hvm h.1, va_Fw.moved ⟨by decide, by decide⟩ hvm h.2.1, va_Fw.moved ⟨by decide, by decide⟩ hvm h.2.2⟩
/-- the arrays' classes are no subclasses of each other -/
def xc (U : State) : Prop := va_Nc "[S" "[B" U ∧ va_Nc "[I" "[B" U ∧ va_Nc "[J" "[B" U ∧ va_Nc "[I" "[S" U ∧ va_Nc "[J" "[S" U ∧ va_Nc "[J" "[I" U
theorem xc.moved {u U : State} (h : xc u) (hvm : u.vm.Alike U.vm) : xc U := ⟨va_Nc.moved hvm h.1, va_Nc.moved hvm h.2.1, va_Nc.moved hvm h.2.2.1, va_Nc.moved hvm h.2.2.2.1, va_Nc.moved hvm h.2.2.2.2.1, va_Nc.moved hvm h.2.2.2.2.2⟩
def xw_I (E : gE) (X : XX) (z : MS) : Heap → List Loc → Prop := fun H locs => va_P (xD X) vwCl (xw_f (xg X) (xk X) z) H ∧ va_S (xw_A (xg X)) (eS E).heap H locs
def xw_J (X : XX) (U : State) : Prop := va_K (xD X) vwCl (xw_tys (xk X)) U ∧ (∀ z, va_D (xw_A (xg X)) (xw_f (xg X) (xk X) z)) ∧ xd X (xw_A (xg X)) U.heap ∧ xn U ∧ xf U ∧ xc U
def xw_C (E : gE) (cc : ByteArray) (nL fr lc : Nat) (RX : String) (X : XX) : Prop :=
  ga_C E cc ∧ (eC E).maxLocals = nL ∧ (eS E).vm.findClass RX = some (eM E).cls ∧ (∀ w ∈ lw_all, w.before (eA E) (eS E) = true) ∧ xw_J X (eS E) ∧ eR E = ({ frames := fr, cells := 0, slots := 0, locals := lc } : Room)
theorem lw_F {own Cn : String} {idx : Nat} {x y : MethodName} {b : ByteArray} {L : Nat} {r : Option FieldType} (h1 : Cond.methodLink own idx x ∈ lw_all) (h2 : Cond.selects Cn x y ∈ lw_all) (h3 : Cond.instanceMethod y ∈ lw_all) (h4 : Cond.initialized y.cls ∈ lw_all) (h5 : Cond.code y b L r ∈ lw_all) : GoodIn lw_all (va_wsF own idx Cn x y (ws_ y b L r)) := by
  refine lw_app ?_ (lw_meth h5)
  intro w hw
  simp only [List.mem_cons, List.not_mem_nil, or_false] at hw
  rcases hw with e | e | e | e
  · rw [e]; exact h1
  · rw [e]; exact h2
  · rw [e]; exact h3
  · rw [e]; exact h4
theorem vp_in_lt {i : Int32} {n : Nat} (h : vp_in i n) : i.toNatClampNeg < n := Nat.not_le.mp fun q => h (Or.inr q)
section XW
variable {E : gE} {cc : ByteArray} {nL fr lc : Nat} {RX : String} {X : XX} {z : MS} {ka na pc : Nat} {lo : List (Option Value)} {st : List Value}
theorem xw_C.c (C : xw_C E cc nL fr lc RX X) : ga_C E cc := C.1
theorem xw_C.ml (C : xw_C E cc nL fr lc RX X) : (eC E).maxLocals = nL := C.2.1
theorem xw_C.ow (C : xw_C E cc nL fr lc RX X) : (eS E).vm.findClass RX = some (eM E).cls := C.2.2.1
theorem xw_C.ts (C : xw_C E cc nL fr lc RX X) : ∀ w ∈ lw_all, w.before (eA E) (eS E) = true := C.2.2.2.1
theorem xw_C.j (C : xw_C E cc nL fr lc RX X) : xw_J X (eS E) := C.2.2.2.2.1
theorem xw_C.rm (C : xw_C E cc nL fr lc RX X) : eR E = ({ frames := fr, cells := 0, slots := 0, locals := lc } : Room) := C.2.2.2.2.2
/-- a cell that is only read -/
theorem xd_P {a : Nat} {e : va_E} (h : xd_at (xD X) (xw_A (xg X)) (eS E).heap a e) : ∀ H locs, xw_I E X z H locs → va_P (xD X) vwCl [(a, e)] H := fun H locs hI k q hk => by
  cases k with
  | zero => cases hk; exact (h.kept hI.2.2.1).1
  | succ k => simp at hk
theorem xa_get (pc2 q0 k : Nat) (C : xw_C E cc nL fr lc RX X) {idx a ci : Nat} {fs : List Value} {Cn : String} {T : u_T} {N : Nat} {v : Value} (ha : (xw_f (xg X) (xk X) z)[q0]? = some (a, .inr (ci, fs))) (hcl : vwCl[ci]? = some (Cn, T, N)) (hin : ∀ w ∈ u_ws Cn T N, w ∈ lw_all) (hk : k < N) (hl : Cond.fieldLink RX idx Cn (T k).2.1 (T k).2.2.1 ∈ lw_all) (hc : (T k).1 = Cn) (hv : fs[k]? = some v) (hd : decode cc pc = .ok (.getfield idx, 3)) (e : pc + 3 = pc2)
    (k1 : ga_W E nL (xw_I E X z) ka na pc2 lo (v :: st)) : ga_W E nL (xw_I E X z) ka na pc lo (.ref a :: st) := by
  subst e
  exact fun H locs ls hI hL => va_get C.c.1 C.c.2 C.ts hin C.ow C.j.1 hI.1 q0 ha hcl k hk (C.ts _ hl) (fun x h9 => by rw [hc] at h9; exact h9) hv hd (k1 H locs ls hI hL)
theorem xa_getN (pc2 q0 k : Nat) (C : xw_C E cc nL fr lc RX X) {idx a ci : Nat} {fs : List Value} {Cn host : String} {T : u_T} {N : Nat} {v : Value} (ha : (xw_f (xg X) (xk X) z)[q0]? = some (a, .inr (ci, fs))) (hcl : vwCl[ci]? = some (Cn, T, N)) (hin : ∀ w ∈ u_ws Cn T N, w ∈ lw_all) (hk : k < N) (hl : Cond.fieldLinkNest RX idx Cn (T k).2.1 (T k).2.2.1 host ∈ lw_tbl) (hc : (T k).1 = Cn) (hv : fs[k]? = some v) (hd : decode cc pc = .ok (.getfield idx, 3)) (e : pc + 3 = pc2)
    (k1 : ga_W E nL (xw_I E X z) ka na pc2 lo (v :: st)) : ga_W E nL (xw_I E X z) ka na pc lo (.ref a :: st) := by
  subst e
  exact fun H locs ls hI hL => va_getN C.c.1 C.c.2 C.ts hin C.ow C.j.1 hI.1 q0 ha hcl k hk (C.j.2.2.2.1.use hl rfl) (fun x h9 => by rw [hc] at h9; exact h9) hv hd (k1 H locs ls hI hL)
theorem xa_put (pc2 q0 k : Nat) (C : xw_C E cc nL fr lc RX X) {idx a ci : Nat} {fs : List Value} {Cn : String} {T : u_T} {N : Nat} {v : Int32} {z2 : MS} {ty : Nat → FieldType} (hty : ∀ k, k < N → parseFieldDescriptor (T k).2.2.1 = some (ty k)) (hnm : ∀ a, a < N → ∀ b, b < N → a ≠ b → (T a).2.1 ≠ (T b).2.1) (ha : (xw_f (xg X) (xk X) z)[q0]? = some (a, .inr (ci, fs))) (hs : (xw_f (xg X) (xk X) z).set q0 (a, .inr (ci, fs.set k (.int v))) = xw_f (xg X) (xk X) z2) (hcl : vwCl[ci]? = some (Cn, T, N)) (hin : ∀ w ∈ u_ws Cn T N, w ∈ lw_all) (hk : k < N) (hl : Cond.fieldLink RX idx Cn (T k).2.1 (T k).2.2.1 ∈ lw_all) (hc : (T k).1 = Cn) (hf : (T k).2.2.2 = false) (ht : ty k = .int) (hlen : k < fs.length) (hd : decode cc pc = .ok (.putfield idx, 3)) (e : pc + 3 = pc2)
    (k1 : ga_W E nL (xw_I E X z2) ka na pc2 lo st) : ga_W E nL (xw_I E X z) ka na pc lo (.int v :: .ref a :: st) := by
  subst e
  exact fun H locs ls hI hL => va_put (ty := .int) C.c.1 C.c.2 C.ts hin ty hty hnm C.ow C.j.1 hI.1 (C.j.2.1 z) hI.2 q0 ha hcl k hk (C.ts _ hl) (fun x h9 => by rw [hc] at h9; exact h9) hf (by rw [hty k hk, ht]) rfl rfl hlen hd (fun H1 locs1 hP hD hS => k1 H1 locs1 ls ⟨mw_put_e hP hs, hS⟩ hL)
theorem xa_putN (pc2 q0 k : Nat) (C : xw_C E cc nL fr lc RX X) {idx a ci : Nat} {fs : List Value} {Cn host : String} {T : u_T} {N : Nat} {v : Int32} {z2 : MS} {ty : Nat → FieldType} (hty : ∀ k, k < N → parseFieldDescriptor (T k).2.2.1 = some (ty k)) (hnm : ∀ a, a < N → ∀ b, b < N → a ≠ b → (T a).2.1 ≠ (T b).2.1) (ha : (xw_f (xg X) (xk X) z)[q0]? = some (a, .inr (ci, fs))) (hs : (xw_f (xg X) (xk X) z).set q0 (a, .inr (ci, fs.set k (.int v))) = xw_f (xg X) (xk X) z2) (hcl : vwCl[ci]? = some (Cn, T, N)) (hin : ∀ w ∈ u_ws Cn T N, w ∈ lw_all) (hk : k < N) (hl : Cond.fieldLinkNest RX idx Cn (T k).2.1 (T k).2.2.1 host ∈ lw_tbl) (hc : (T k).1 = Cn) (hf : (T k).2.2.2 = false) (ht : ty k = .int) (hlen : k < fs.length) (hd : decode cc pc = .ok (.putfield idx, 3)) (e : pc + 3 = pc2)
    (k1 : ga_W E nL (xw_I E X z2) ka na pc2 lo st) : ga_W E nL (xw_I E X z) ka na pc lo (.int v :: .ref a :: st) := by
  subst e
  exact fun H locs ls hI hL => va_putN (ty := .int) C.c.1 C.c.2 C.ts hin ty hty hnm C.ow C.j.1 hI.1 (C.j.2.1 z) hI.2 q0 ha hcl k hk (C.j.2.2.2.1.use hl rfl) (fun x h9 => by rw [hc] at h9; exact h9) hf (by rw [hty k hk, ht]) rfl rfl hlen hd (fun H1 locs1 hP hD hS => k1 H1 locs1 ls ⟨mw_put_e hP hs, hS⟩ hL)
theorem xa_set0 {g kk : Nat → Nat} (v : Int32) : (xw_f g kk z).set 0 (g 0, .inr (0, ([.ref (g 13), .ref (g 15), .ref (g 14), .ref (g 1), .int (mi z 0), .int (mi z 1), .int (mi z 2), .ref (g 2), .ref (g 5), .ref (g 7), .int (mi z 3), .ref (g 9), .int (mi z 4), .ref (g 11), .ref (g 12)] : List Value).set 4 (.int v))) = xw_f g kk (msi z 0 v) := rfl
theorem xa_set1 {g kk : Nat → Nat} (v : Int32) : (xw_f g kk z).set 0 (g 0, .inr (0, ([.ref (g 13), .ref (g 15), .ref (g 14), .ref (g 1), .int (mi z 0), .int (mi z 1), .int (mi z 2), .ref (g 2), .ref (g 5), .ref (g 7), .int (mi z 3), .ref (g 9), .int (mi z 4), .ref (g 11), .ref (g 12)] : List Value).set 5 (.int v))) = xw_f g kk (msi z 1 v) := rfl
theorem xa_set2 {g kk : Nat → Nat} (v : Int32) : (xw_f g kk z).set 0 (g 0, .inr (0, ([.ref (g 13), .ref (g 15), .ref (g 14), .ref (g 1), .int (mi z 0), .int (mi z 1), .int (mi z 2), .ref (g 2), .ref (g 5), .ref (g 7), .int (mi z 3), .ref (g 9), .int (mi z 4), .ref (g 11), .ref (g 12)] : List Value).set 6 (.int v))) = xw_f g kk (msi z 2 v) := rfl
theorem xa_set3 {g kk : Nat → Nat} (v : Int32) : (xw_f g kk z).set 0 (g 0, .inr (0, ([.ref (g 13), .ref (g 15), .ref (g 14), .ref (g 1), .int (mi z 0), .int (mi z 1), .int (mi z 2), .ref (g 2), .ref (g 5), .ref (g 7), .int (mi z 3), .ref (g 9), .int (mi z 4), .ref (g 11), .ref (g 12)] : List Value).set 10 (.int v))) = xw_f g kk (msi z 3 v) := rfl
theorem xa_set4 {g kk : Nat → Nat} (v : Int32) : (xw_f g kk z).set 0 (g 0, .inr (0, ([.ref (g 13), .ref (g 15), .ref (g 14), .ref (g 1), .int (mi z 0), .int (mi z 1), .int (mi z 2), .ref (g 2), .ref (g 5), .ref (g 7), .int (mi z 3), .ref (g 9), .int (mi z 4), .ref (g 11), .ref (g 12)] : List Value).set 12 (.int v))) = xw_f g kk (msi z 4 v) := rfl
theorem xa_set5 {g kk : Nat → Nat} (v : Int32) : (xw_f g kk z).set 2 (g 2, .inr (4, ([.ref (g 3), .ref (g 4), .int (mi z 5), .int (mi z 6), .int (mi z 7), .int (mi z 8), .int (mi z 9), .int (mi z 10), .ref (g 0)] : List Value).set 2 (.int v))) = xw_f g kk (msi z 5 v) := rfl
theorem xa_set6 {g kk : Nat → Nat} (v : Int32) : (xw_f g kk z).set 2 (g 2, .inr (4, ([.ref (g 3), .ref (g 4), .int (mi z 5), .int (mi z 6), .int (mi z 7), .int (mi z 8), .int (mi z 9), .int (mi z 10), .ref (g 0)] : List Value).set 3 (.int v))) = xw_f g kk (msi z 6 v) := rfl
theorem xa_set7 {g kk : Nat → Nat} (v : Int32) : (xw_f g kk z).set 2 (g 2, .inr (4, ([.ref (g 3), .ref (g 4), .int (mi z 5), .int (mi z 6), .int (mi z 7), .int (mi z 8), .int (mi z 9), .int (mi z 10), .ref (g 0)] : List Value).set 4 (.int v))) = xw_f g kk (msi z 7 v) := rfl
theorem xa_set8 {g kk : Nat → Nat} (v : Int32) : (xw_f g kk z).set 2 (g 2, .inr (4, ([.ref (g 3), .ref (g 4), .int (mi z 5), .int (mi z 6), .int (mi z 7), .int (mi z 8), .int (mi z 9), .int (mi z 10), .ref (g 0)] : List Value).set 5 (.int v))) = xw_f g kk (msi z 8 v) := rfl
theorem xa_set9 {g kk : Nat → Nat} (v : Int32) : (xw_f g kk z).set 2 (g 2, .inr (4, ([.ref (g 3), .ref (g 4), .int (mi z 5), .int (mi z 6), .int (mi z 7), .int (mi z 8), .int (mi z 9), .int (mi z 10), .ref (g 0)] : List Value).set 6 (.int v))) = xw_f g kk (msi z 9 v) := rfl
theorem xa_set10 {g kk : Nat → Nat} (v : Int32) : (xw_f g kk z).set 2 (g 2, .inr (4, ([.ref (g 3), .ref (g 4), .int (mi z 5), .int (mi z 6), .int (mi z 7), .int (mi z 8), .int (mi z 9), .int (mi z 10), .ref (g 0)] : List Value).set 7 (.int v))) = xw_f g kk (msi z 10 v) := rfl
theorem xa_set11 {g kk : Nat → Nat} (v : Int32) : (xw_f g kk z).set 5 (g 5, .inr (5, ([.ref (g 6), .int (mi z 11), .int (mi z 12), .int (mi z 13), .int (mi z 14), .int (mi z 15), .int (mi z 16), .int (mi z 17), .ref (g 0)] : List Value).set 1 (.int v))) = xw_f g kk (msi z 11 v) := rfl
theorem xa_set12 {g kk : Nat → Nat} (v : Int32) : (xw_f g kk z).set 5 (g 5, .inr (5, ([.ref (g 6), .int (mi z 11), .int (mi z 12), .int (mi z 13), .int (mi z 14), .int (mi z 15), .int (mi z 16), .int (mi z 17), .ref (g 0)] : List Value).set 2 (.int v))) = xw_f g kk (msi z 12 v) := rfl
theorem xa_set13 {g kk : Nat → Nat} (v : Int32) : (xw_f g kk z).set 5 (g 5, .inr (5, ([.ref (g 6), .int (mi z 11), .int (mi z 12), .int (mi z 13), .int (mi z 14), .int (mi z 15), .int (mi z 16), .int (mi z 17), .ref (g 0)] : List Value).set 3 (.int v))) = xw_f g kk (msi z 13 v) := rfl
theorem xa_set14 {g kk : Nat → Nat} (v : Int32) : (xw_f g kk z).set 5 (g 5, .inr (5, ([.ref (g 6), .int (mi z 11), .int (mi z 12), .int (mi z 13), .int (mi z 14), .int (mi z 15), .int (mi z 16), .int (mi z 17), .ref (g 0)] : List Value).set 4 (.int v))) = xw_f g kk (msi z 14 v) := rfl
theorem xa_set15 {g kk : Nat → Nat} (v : Int32) : (xw_f g kk z).set 5 (g 5, .inr (5, ([.ref (g 6), .int (mi z 11), .int (mi z 12), .int (mi z 13), .int (mi z 14), .int (mi z 15), .int (mi z 16), .int (mi z 17), .ref (g 0)] : List Value).set 5 (.int v))) = xw_f g kk (msi z 15 v) := rfl
theorem xa_set16 {g kk : Nat → Nat} (v : Int32) : (xw_f g kk z).set 5 (g 5, .inr (5, ([.ref (g 6), .int (mi z 11), .int (mi z 12), .int (mi z 13), .int (mi z 14), .int (mi z 15), .int (mi z 16), .int (mi z 17), .ref (g 0)] : List Value).set 6 (.int v))) = xw_f g kk (msi z 16 v) := rfl
theorem xa_set17 {g kk : Nat → Nat} (v : Int32) : (xw_f g kk z).set 5 (g 5, .inr (5, ([.ref (g 6), .int (mi z 11), .int (mi z 12), .int (mi z 13), .int (mi z 14), .int (mi z 15), .int (mi z 16), .int (mi z 17), .ref (g 0)] : List Value).set 7 (.int v))) = xw_f g kk (msi z 17 v) := rfl
theorem xa_set21 {g kk : Nat → Nat} (v : Int32) : (xw_f g kk z).set 7 (g 7, .inr (5, ([.ref (g 8), .int (mi z 21), .int (mi z 22), .int (mi z 23), .int (mi z 24), .int (mi z 25), .int (mi z 26), .int (mi z 27), .ref (g 0)] : List Value).set 1 (.int v))) = xw_f g kk (msi z 21 v) := rfl
theorem xa_set22 {g kk : Nat → Nat} (v : Int32) : (xw_f g kk z).set 7 (g 7, .inr (5, ([.ref (g 8), .int (mi z 21), .int (mi z 22), .int (mi z 23), .int (mi z 24), .int (mi z 25), .int (mi z 26), .int (mi z 27), .ref (g 0)] : List Value).set 2 (.int v))) = xw_f g kk (msi z 22 v) := rfl
theorem xa_set23 {g kk : Nat → Nat} (v : Int32) : (xw_f g kk z).set 7 (g 7, .inr (5, ([.ref (g 8), .int (mi z 21), .int (mi z 22), .int (mi z 23), .int (mi z 24), .int (mi z 25), .int (mi z 26), .int (mi z 27), .ref (g 0)] : List Value).set 3 (.int v))) = xw_f g kk (msi z 23 v) := rfl
theorem xa_set24 {g kk : Nat → Nat} (v : Int32) : (xw_f g kk z).set 7 (g 7, .inr (5, ([.ref (g 8), .int (mi z 21), .int (mi z 22), .int (mi z 23), .int (mi z 24), .int (mi z 25), .int (mi z 26), .int (mi z 27), .ref (g 0)] : List Value).set 4 (.int v))) = xw_f g kk (msi z 24 v) := rfl
theorem xa_set25 {g kk : Nat → Nat} (v : Int32) : (xw_f g kk z).set 7 (g 7, .inr (5, ([.ref (g 8), .int (mi z 21), .int (mi z 22), .int (mi z 23), .int (mi z 24), .int (mi z 25), .int (mi z 26), .int (mi z 27), .ref (g 0)] : List Value).set 5 (.int v))) = xw_f g kk (msi z 25 v) := rfl
theorem xa_set26 {g kk : Nat → Nat} (v : Int32) : (xw_f g kk z).set 7 (g 7, .inr (5, ([.ref (g 8), .int (mi z 21), .int (mi z 22), .int (mi z 23), .int (mi z 24), .int (mi z 25), .int (mi z 26), .int (mi z 27), .ref (g 0)] : List Value).set 6 (.int v))) = xw_f g kk (msi z 26 v) := rfl
theorem xa_set27 {g kk : Nat → Nat} (v : Int32) : (xw_f g kk z).set 7 (g 7, .inr (5, ([.ref (g 8), .int (mi z 21), .int (mi z 22), .int (mi z 23), .int (mi z 24), .int (mi z 25), .int (mi z 26), .int (mi z 27), .ref (g 0)] : List Value).set 7 (.int v))) = xw_f g kk (msi z 27 v) := rfl
theorem xa_set31 {g kk : Nat → Nat} (v : Int32) : (xw_f g kk z).set 9 (g 9, .inr (6, ([.ref (g 10), .int (mi z 31), .int (mi z 32), .int (mi z 33), .int (mi z 34), .int (mi z 35), .ref (g 0)] : List Value).set 1 (.int v))) = xw_f g kk (msi z 31 v) := rfl
theorem xa_set32 {g kk : Nat → Nat} (v : Int32) : (xw_f g kk z).set 9 (g 9, .inr (6, ([.ref (g 10), .int (mi z 31), .int (mi z 32), .int (mi z 33), .int (mi z 34), .int (mi z 35), .ref (g 0)] : List Value).set 2 (.int v))) = xw_f g kk (msi z 32 v) := rfl
theorem xa_set33 {g kk : Nat → Nat} (v : Int32) : (xw_f g kk z).set 9 (g 9, .inr (6, ([.ref (g 10), .int (mi z 31), .int (mi z 32), .int (mi z 33), .int (mi z 34), .int (mi z 35), .ref (g 0)] : List Value).set 3 (.int v))) = xw_f g kk (msi z 33 v) := rfl
theorem xa_set34 {g kk : Nat → Nat} (v : Int32) : (xw_f g kk z).set 9 (g 9, .inr (6, ([.ref (g 10), .int (mi z 31), .int (mi z 32), .int (mi z 33), .int (mi z 34), .int (mi z 35), .ref (g 0)] : List Value).set 4 (.int v))) = xw_f g kk (msi z 34 v) := rfl
theorem xa_set35 {g kk : Nat → Nat} (v : Int32) : (xw_f g kk z).set 9 (g 9, .inr (6, ([.ref (g 10), .int (mi z 31), .int (mi z 32), .int (mi z 33), .int (mi z 34), .int (mi z 35), .ref (g 0)] : List Value).set 5 (.int v))) = xw_f g kk (msi z 35 v) := rfl
theorem xa_seta1 {g kk : Nat → Nat} (i v : Int32) : (xw_f g kk z).set 1 (g 1, .inl (kk 2, 700, .inl (upd (ma z 0) i.toNatClampNeg v))) = xw_f g kk (msa z 0 i v) := rfl
theorem xa_seta3 {g kk : Nat → Nat} (i v : Int32) : (xw_f g kk z).set 3 (g 3, .inl (kk 0, 61, .inl (upd (ma z 1) i.toNatClampNeg v))) = xw_f g kk (msa z 1 i v) := rfl
theorem xa_seta4 {g kk : Nat → Nat} (i v : Int32) : (xw_f g kk z).set 4 (g 4, .inl (kk 0, 61, .inl (upd (ma z 2) i.toNatClampNeg v))) = xw_f g kk (msa z 2 i v) := rfl
theorem xa_seta6 {g kk : Nat → Nat} (i v : Int32) : (xw_f g kk z).set 6 (g 6, .inl (kk 0, 61, .inl (upd (ma z 3) i.toNatClampNeg v))) = xw_f g kk (msa z 3 i v) := rfl
theorem xa_seta8 {g kk : Nat → Nat} (i v : Int32) : (xw_f g kk z).set 8 (g 8, .inl (kk 0, 61, .inl (upd (ma z 13) i.toNatClampNeg v))) = xw_f g kk (msa z 13 i v) := rfl
theorem xa_seta10 {g kk : Nat → Nat} (i v : Int32) : (xw_f g kk z).set 10 (g 10, .inl (kk 0, 793, .inl (upd (ma z 5) i.toNatClampNeg v))) = xw_f g kk (msa z 5 i v) := rfl
theorem xa_seta11 {g kk : Nat → Nat} (i : Int32) (v : Int64) : (xw_f g kk z).set 11 (g 11, .inl (kk 1, 2000, .inr (.inl (vp_updL (ml z 0) i.toNatClampNeg v)))) = xw_f g kk (msl z 0 i v) := rfl
theorem xa_seta12 {g kk : Nat → Nat} (i : Int32) (v : Int64) : (xw_f g kk z).set 12 (g 12, .inl (kk 1, 2000, .inr (.inl (vp_updL (ml z 1) i.toNatClampNeg v)))) = xw_f g kk (msl z 1 i v) := rfl
theorem xa_iald (pc2 k q n : Nat) (C : xw_C E cc nL fr lc RX X) {i : Int32} (ha : (xw_f (xg X) (xk X) z)[q]? = some (xg X q, .inl (xk X 0, n, .inl (ma z k)))) (hi : vp_in i n) (hd : decode cc pc = .ok (.iaload, 1)) (e : pc + 1 = pc2)
    (k1 : ga_W E nL (xw_I E X z) ka na pc2 lo (.int (ma z k i.toNatClampNeg) :: st)) : ga_W E nL (xw_I E X z) ka na pc lo (.int i :: .ref (xg X q) :: st) := by
  subst e
  exact fun H locs ls hI hL => va_iald C.c.1 C.c.2 C.j.1 hI.1 q 0 ha rfl hi hd (k1 H locs ls hI hL)
theorem xa_bald (pc2 k q n : Nat) (C : xw_C E cc nL fr lc RX X) {i : Int32} (ha : (xw_f (xg X) (xk X) z)[q]? = some (xg X q, .inl (xk X 2, n, .inl (ma z k)))) (hi : vp_in i n) (hd : decode cc pc = .ok (.baload, 1)) (e : pc + 1 = pc2)
    (k1 : ga_W E nL (xw_I E X z) ka na pc2 lo (.int (ma z k i.toNatClampNeg) :: st)) : ga_W E nL (xw_I E X z) ka na pc lo (.int i :: .ref (xg X q) :: st) := by
  subst e
  exact fun H locs ls hI hL => va_bald C.c.1 C.c.2 C.j.1 hI.1 q 2 ha rfl hi hd (k1 H locs ls hI hL)
theorem xa_lald (pc2 k q n : Nat) (C : xw_C E cc nL fr lc RX X) {i : Int32} (ha : (xw_f (xg X) (xk X) z)[q]? = some (xg X q, .inl (xk X 1, n, .inr (.inl (ml z k))))) (hi : vp_in i n) (hd : decode cc pc = .ok (.laload, 1)) (e : pc + 1 = pc2)
    (k1 : ga_W E nL (xw_I E X z) ka na pc2 lo (.long (ml z k i.toNatClampNeg) :: st)) : ga_W E nL (xw_I E X z) ka na pc lo (.int i :: .ref (xg X q) :: st) := by
  subst e
  exact fun H locs ls hI hL => va_lald C.c.1 C.c.2 C.j.1 hI.1 q 1 ha rfl hi hd (k1 H locs ls hI hL)
theorem xa_iast (pc2 k q n : Nat) (C : xw_C E cc nL fr lc RX X) {i v : Int32} (ha : (xw_f (xg X) (xk X) z)[q]? = some (xg X q, .inl (xk X 0, n, .inl (ma z k)))) (hs : (xw_f (xg X) (xk X) z).set q (xg X q, .inl (xk X 0, n, .inl (upd (ma z k) i.toNatClampNeg v))) = xw_f (xg X) (xk X) (msa z k i v)) (hi : vp_in i n) (hd : decode cc pc = .ok (.iastore, 1)) (e : pc + 1 = pc2)
    (k1 : ga_W E nL (xw_I E X (msa z k i v)) ka na pc2 lo st) : ga_W E nL (xw_I E X z) ka na pc lo (.int v :: .int i :: .ref (xg X q) :: st) := by
  subst e
  exact fun H locs ls hI hL => va_iast C.c.1 C.c.2 C.j.1 hI.1 (C.j.2.1 z) hI.2 q 0 ha rfl hi hd (fun H1 locs1 hP hD hS => k1 H1 locs1 ls ⟨mw_put_e hP hs, hS⟩ hL)
theorem xa_bast (pc2 k q n : Nat) (C : xw_C E cc nL fr lc RX X) {i v w : Int32} (hw : vp_nar .byte v = w) (ha : (xw_f (xg X) (xk X) z)[q]? = some (xg X q, .inl (xk X 2, n, .inl (ma z k)))) (hs : (xw_f (xg X) (xk X) z).set q (xg X q, .inl (xk X 2, n, .inl (upd (ma z k) i.toNatClampNeg w))) = xw_f (xg X) (xk X) (msa z k i w)) (hi : vp_in i n) (hd : decode cc pc = .ok (.bastore, 1)) (e : pc + 1 = pc2)
    (k1 : ga_W E nL (xw_I E X (msa z k i w)) ka na pc2 lo st) : ga_W E nL (xw_I E X z) ka na pc lo (.int v :: .int i :: .ref (xg X q) :: st) := by
  subst e
  subst hw
  exact fun H locs ls hI hL => va_bast C.c.1 C.c.2 C.j.1 hI.1 (C.j.2.1 z) hI.2 q 2 ha rfl hi hd (fun H1 locs1 hP hD hS => k1 H1 locs1 ls ⟨mw_put_e hP hs, hS⟩ hL)
theorem xa_last (pc2 k q n : Nat) (C : xw_C E cc nL fr lc RX X) {i : Int32} {v : Int64} (ha : (xw_f (xg X) (xk X) z)[q]? = some (xg X q, .inl (xk X 1, n, .inr (.inl (ml z k))))) (hs : (xw_f (xg X) (xk X) z).set q (xg X q, .inl (xk X 1, n, .inr (.inl (vp_updL (ml z k) i.toNatClampNeg v)))) = xw_f (xg X) (xk X) (msl z k i v)) (hi : vp_in i n) (hd : decode cc pc = .ok (.lastore, 1)) (e : pc + 1 = pc2)
    (k1 : ga_W E nL (xw_I E X (msl z k i v)) ka na pc2 lo st) : ga_W E nL (xw_I E X z) ka na pc lo (.long v :: .int i :: .ref (xg X q) :: st) := by
  subst e
  exact fun H locs ls hI hL => va_last C.c.1 C.c.2 C.j.1 hI.1 (C.j.2.1 z) hI.2 q 1 ha rfl hi hd (fun H1 locs1 hP hD hS => k1 H1 locs1 ls ⟨mw_put_e hP hs, hS⟩ hL)
/-- getfield of a cell that is only read -/
theorem xd_get (pc2 k : Nat) (C : xw_C E cc nL fr lc RX X) {idx a ci : Nat} {fs : List Value} {Cn : String} {T : u_T} {N : Nat} {v : Value} (hx : xd_at (xD X) (xw_A (xg X)) (eS E).heap a (.inr (ci, fs))) (hcl : vwCl[ci]? = some (Cn, T, N)) (hin : ∀ w ∈ u_ws Cn T N, w ∈ lw_all) (hk : k < N) (hl : Cond.fieldLink RX idx Cn (T k).2.1 (T k).2.2.1 ∈ lw_all) (hc : (T k).1 = Cn) (hv : fs[k]? = some v) (hd : decode cc pc = .ok (.getfield idx, 3)) (e : pc + 3 = pc2)
    (k1 : ga_W E nL (xw_I E X z) ka na pc2 lo (v :: st)) : ga_W E nL (xw_I E X z) ka na pc lo (.ref a :: st) :=
  ga_get1 pc2 k C.c C.ts C.ow C.j.1 (xd_P hx) hin hcl hk hl (fun x h9 => by rw [hc] at h9; exact h9) hv hd e k1
theorem xd_getN (pc2 k : Nat) (C : xw_C E cc nL fr lc RX X) {idx a ci : Nat} {fs : List Value} {Cn host : String} {T : u_T} {N : Nat} {v : Value} (hx : xd_at (xD X) (xw_A (xg X)) (eS E).heap a (.inr (ci, fs))) (hcl : vwCl[ci]? = some (Cn, T, N)) (hin : ∀ w ∈ u_ws Cn T N, w ∈ lw_all) (hk : k < N) (hl : Cond.fieldLinkNest RX idx Cn (T k).2.1 (T k).2.2.1 host ∈ lw_tbl) (hc : (T k).1 = Cn) (hv : fs[k]? = some v) (hd : decode cc pc = .ok (.getfield idx, 3)) (e : pc + 3 = pc2)
    (k1 : ga_W E nL (xw_I E X z) ka na pc2 lo (v :: st)) : ga_W E nL (xw_I E X z) ka na pc lo (.ref a :: st) :=
  ga_get1N pc2 k C.c C.ts C.ow C.j.1 (xd_P hx) hin hcl hk (C.j.2.2.2.1.use hl rfl) (fun x h9 => by rw [hc] at h9; exact h9) hv hd e k1
/-- the facts of what is only read, by name -/
theorem xw_C.rv (C : xw_C E cc nL fr lc RX X) : xd_at (xD X) (xw_A (xg X)) (eS E).heap (xg X 15) (.inr (3, [.ref ((xG X).1 7 0), .ref ((xG X).1 7 1), .ref ((xG X).1 7 2), .ref ((xG X).1 7 3), .int (pw (xp X) 0), .int (pw (xp X) 1), .int (pw (xp X) 2), .int (pw (xp X) 7)])) := C.j.2.2.1.1.1
def pq (p : PS) (i : Nat) : Nat := (pw p (3 + i)).toNatClampNeg
theorem xw_C.d0 (C : xw_C E cc nL fr lc RX X) {j : Nat} (h : j < pq (xp X) 0) : xd_at (xD X) (xw_A (xg X)) (eS E).heap ((xG X).1 0 j) (.inr (9, [.int (pw (xp X) (8 + 3 * j)), .int (pw (xp X) (9 + 3 * j)), .int (pw (xp X) (10 + 3 * j))])) := C.j.2.2.1.1.2.2.2.2.1 j h
theorem xw_C.d1 (C : xw_C E cc nL fr lc RX X) {j : Nat} (h : j < pq (xp X) 1) : xd_at (xD X) (xw_A (xg X)) (eS E).heap ((xG X).1 1 j) (.inr (10, [.int (pw (xp X) (38 + 4 * j)), .int (pw (xp X) (39 + 4 * j)), .int (pw (xp X) (40 + 4 * j)), .int (pw (xp X) (41 + 4 * j))])) := C.j.2.2.1.1.2.2.2.2.2.1 j h
theorem xw_C.d2 (C : xw_C E cc nL fr lc RX X) {j : Nat} (h : j < pq (xp X) 2) : xd_at (xD X) (xw_A (xg X)) (eS E).heap ((xG X).1 2 j) (.inr (11, [.int (pw (xp X) (58 + 2 * j)), .int (pw (xp X) (59 + 2 * j))])) := C.j.2.2.1.1.2.2.2.2.2.2.1 j h
theorem xw_C.d3 (C : xw_C E cc nL fr lc RX X) {j : Nat} (h : j < pq (xp X) 3) : xr_act (xD X) (xw_A (xg X)) (eS E).heap (xG X) (pw (xp X) (68 + j)) j := C.j.2.2.1.1.2.2.2.2.2.2.2 j h
theorem xw_C.d4 (C : xw_C E cc nL fr lc RX X) {j : Nat} (h : j < pq (xp X) 3) (hc : 100 ≤ pw (xp X) (68 + j)) : xd_at (xD X) (xw_A (xg X)) (eS E).heap ((xG X).1 4 j) (.inr (11, [.int (pw (xp X) (68 + j) - pw (xp X) (68 + j) / 100 * 100), .int (pw (xp X) (68 + j) / 100 - 1)])) := ((C.d3 h).1 hc).2
theorem xw_C.hats (C : xw_C E cc nL fr lc RX X) {ci : Nat} {Cn : String} {T : u_T} {N : Nat} (hcl : vwCl[ci]? = some (Cn, T, N)) : ClassAt (eS E) Cn ((xD X).1 ci) := (C.j.1.1 ci _ hcl).2
/-- what the list with number i in the rivers holds -/
theorem xl_P (C : xw_C E cc nL fr lc RX X) {i : Nat} (hi : i < 4) : ∀ H locs, xw_I E X z H locs → va_P (xD X) vwCl [ls_o ((xG X).1 7 i) ((xG X).2.2.1 i) ((xG X).1 8 i) (pw (xp X) (3 + i)), ls_a ((xG X).1 8 i) (xk X 5) ((xG X).2.1 i) ((xG X).2.2.2 i)] H := fun H locs hI =>
  va_P.app (xd_P (C.j.2.2.1.1.2.1 i hi) H locs hI) (xd_P (C.j.2.2.1.1.2.2.1 i hi) H locs hI)
theorem xl_N (C : xw_C E cc nL fr lc RX X) {i : Nat} (hi : i < 4) : pw (xp X) (3 + i) = Int32.ofNat (pq (xp X) i) ∧ pq (xp X) i < 2 ^ 31 ∧ pq (xp X) i ≤ (xG X).2.1 i ∧ ∀ j, j < pq (xp X) i → (xG X).2.2.2 i j = some ((xG X).1 i j) := C.j.2.2.1.1.2.2.2.1 i hi
theorem xa_size (pc2 i : Nat) (C : xw_C E cc nL fr lc RX X) (hi : i < 4) {idx count : Nat} (hl : Cond.methodLink RX idx yL_size ∈ lw_all) (hf : 1 ≤ fr) (hlc : 20 ≤ lc) (hst : (st.map fun v => v.category).sum ≤ 8) (hd : decode cc pc = .ok (.invokeinterface idx count, 5)) (e : pc + 5 = pc2)
    (k1 : ga_W E nL (xw_I E X z) 0 0 pc2 lo (.int (pw (xp X) (3 + i)) :: st)) : ga_W E nL (xw_I E X z) 0 0 pc lo (.ref ((xG X).1 7 i) :: st) :=
  ga_callFP pc2 (as := []) C.c C.ml C.ow C.ts (C.hats (ci := 13) rfl) C.j.2.2.2.2.1.1 (met_J2_size (eL E) (xD X) ((xG X).1 7 i) ((xG X).1 8 i) ((xG X).2.2.1 i) (pw (xp X) (3 + i)))
    (fun U g mk a h => ⟨h.1, va_K.moved (u := U) (U := U.calling g mk a) (Vm.Alike.refl U.vm) h.2⟩) (fun H locs hI U hU hW => ⟨by rw [hU]; exact (xl_P C hi H locs hI).sub [0] rfl, va_K.moved hW.alike (C.j.1.sub [] rfl)⟩) (fun H locs hI => va_recv C.j.1 (xl_P C hi H locs hI) (ci := 13) (q0 := 0) rfl rfl)
    (lw_F hl q787 q789 q98 q791) (by decide +kernel) rfl (by rw [C.rm]; exact hf) (by rw [C.rm]; exact hlc) (by rw [C.rm]; exact Nat.le_refl _) (by rw [C.rm]; exact Nat.le_refl _) hst hd e k1
theorem xa_isEmpty (pc2 i : Nat) (C : xw_C E cc nL fr lc RX X) (hi : i < 4) {idx count : Nat} (hl : Cond.methodLink RX idx yL_isEmpty ∈ lw_all) (hf : 1 ≤ fr) (hlc : 20 ≤ lc) (hst : (st.map fun v => v.category).sum ≤ 8) (hd : decode cc pc = .ok (.invokeinterface idx count, 5)) (e : pc + 5 = pc2)
    (k1 : ga_W E nL (xw_I E X z) 0 0 pc2 lo (.int (if pw (xp X) (3 + i) = 0 then 1 else 0) :: st)) : ga_W E nL (xw_I E X z) 0 0 pc lo (.ref ((xG X).1 7 i) :: st) :=
  ga_callFP pc2 (as := []) C.c C.ml C.ow C.ts (C.hats (ci := 13) rfl) C.j.2.2.2.2.1.2.2 (met_J2_isEmpty (eL E) (xD X) ((xG X).1 7 i) ((xG X).1 8 i) ((xG X).2.2.1 i) (pw (xp X) (3 + i)))
    (fun U g mk a h => ⟨h.1, va_K.moved (u := U) (U := U.calling g mk a) (Vm.Alike.refl U.vm) h.2⟩) (fun H locs hI U hU hW => ⟨by rw [hU]; exact (xl_P C hi H locs hI).sub [0] rfl, va_K.moved hW.alike (C.j.1.sub [] rfl)⟩) (fun H locs hI => va_recv C.j.1 (xl_P C hi H locs hI) (ci := 13) (q0 := 0) rfl rfl)
    (lw_F hl q1510 q1512 q98 q1514) (by decide +kernel) rfl (by rw [C.rm]; exact hf) (by rw [C.rm]; exact hlc) (by rw [C.rm]; exact Nat.le_refl _) (by rw [C.rm]; exact Nat.le_refl _) hst hd e k1
theorem xa_lget (pc2 i : Nat) (C : xw_C E cc nL fr lc RX X) (hi : i < 4) {r : Int32} (hr : vp_in r (pq (xp X) i)) {idx count : Nat} (hl : Cond.methodLink RX idx yL_get ∈ lw_all) (hf : 3 ≤ fr) (hlc : 81 ≤ lc) (hst : (st.map fun v => v.category).sum ≤ 8) (hd : decode cc pc = .ok (.invokeinterface idx count, 5)) (e : pc + 5 = pc2)
    (k1 : ga_W E nL (xw_I E X z) 0 0 pc2 lo (.ref ((xG X).1 i r.toNatClampNeg) :: st)) : ga_W E nL (xw_I E X z) 0 0 pc lo (.int r :: .ref ((xG X).1 7 i) :: st) :=
  ga_callFP pc2 (as := [.int r]) C.c C.ml C.ow C.ts (C.hats (ci := 13) rfl) C.j.2.2.2.2.1.2.1 (met_J2_get (eL E) (xD X) ((xG X).1 7 i) ((xG X).1 8 i) ((xG X).2.1 i) ((xG X).1 i r.toNatClampNeg) (pq (xp X) i) (xk X 5) ((xG X).2.2.2 i) ((xG X).2.2.1 i) r hr (xl_N C hi).2.2.1 (xl_N C hi).2.1 ((xl_N C hi).2.2.2 _ (vp_in_lt hr)))
    (fun U g mk a h => ⟨h.1, va_K.moved (u := U) (U := U.calling g mk a) (Vm.Alike.refl U.vm) h.2⟩) (fun H locs hI U hU hW => ⟨by rw [hU, ← (xl_N C hi).1]; exact xl_P C hi H locs hI, va_K.moved hW.alike (C.j.1.sub [5] rfl)⟩) (fun H locs hI => va_recv C.j.1 (xl_P C hi H locs hI) (ci := 13) (q0 := 0) rfl rfl)
    (n := 1) (lw_F hl q1028 q1030 q98 q1032) (by decide +kernel) rfl (by rw [C.rm]; exact hf) (by rw [C.rm]; exact hlc) (by rw [C.rm]; exact Nat.le_refl _) (by rw [C.rm]; exact Nat.le_refl _) hst hd e k1
/-- checkcast to the cell's own class -/
theorem xd_cast (pc2 : Nat) (C : xw_C E cc nL fr lc RX X) {idx a ci : Nat} {fs : List Value} {Cn : String} {T : u_T} {N : Nat} (hx : xd_at (xD X) (xw_A (xg X)) (eS E).heap a (.inr (ci, fs))) (hcl : vwCl[ci]? = some (Cn, T, N)) (hl : Cond.classLink RX idx Cn ∈ lw_all) (hd : decode cc pc = .ok (.checkcast idx, 3)) (e : pc + 3 = pc2)
    (k1 : ga_W E nL (xw_I E X z) ka na pc2 lo (.ref a :: st)) : ga_W E nL (xw_I E X z) ka na pc lo (.ref a :: st) := by
  subst e
  exact fun H locs ls hI hL => va_castS C.c.1 C.c.2 C.ow (C.ts _ hl) (C.hats hcl) (va_recv C.j.1 (xd_P hx H locs hI) (ci := ci) (q0 := 0) hcl rfl) hd (k1 H locs ls hI hL)
theorem xd_act (C : xw_C E cc nL fr lc RX X) {j : Nat} (h : j < pq (xp X) 3) : ∃ fs, xd_at (xD X) (xw_A (xg X)) (eS E).heap ((xG X).1 3 j) (.inr (12, fs)) := by
  by_cases c : 100 ≤ pw (xp X) (68 + j)
  · exact ⟨_, ((C.d3 h).1 c).1⟩
  · exact ⟨_, (C.d3 h).2 c⟩
theorem xd_castA (pc2 : Nat) (C : xw_C E cc nL fr lc RX X) {idx j : Nat} (h : j < pq (xp X) 3) (hl : Cond.classLink RX idx RX12 ∈ lw_all) (hd : decode cc pc = .ok (.checkcast idx, 3)) (e : pc + 3 = pc2)
    (k1 : ga_W E nL (xw_I E X z) ka na pc2 lo (.ref ((xG X).1 3 j) :: st)) : ga_W E nL (xw_I E X z) ka na pc lo (.ref ((xG X).1 3 j) :: st) := by
  obtain ⟨fs, hx⟩ := xd_act C h
  exact xd_cast pc2 C hx (ci := 12) rfl hl hd e k1
/-- the rain of an act, asked for null -/
theorem xa_actnull (pt pf : Nat) {pc1 : Nat} (C : xw_C E cc nL fr lc RX X) {idx j : Nat} {host : String} {off : Int} (h : j < pq (xp X) 3) (hl : Cond.fieldLinkNest RX idx RX12 "rain" "LQuotedRiver$Rain;" host ∈ lw_tbl) (hd : decode cc pc = .ok (.getfield idx, 3)) (e1 : pc + 3 = pc1) (hd2 : decode cc pc1 = .ok (.ifnull off, 3)) (ht : (pc1 : Int) + off = (pt : Int)) (e2 : pc1 + 3 = pf)
    (kt : ¬ 100 ≤ pw (xp X) (68 + j) → ga_W E nL (xw_I E X z) ka na pt lo st) (kf : 100 ≤ pw (xp X) (68 + j) → ga_W E nL (xw_I E X z) ka na pf lo st) : ga_W E nL (xw_I E X z) ka na pc lo (.ref ((xG X).1 3 j) :: st) := by
  by_cases c : 100 ≤ pw (xp X) (68 + j)
  · refine xd_getN pc1 2 C ((C.d3 h).1 c).1 (T := TX12) (N := 3) rfl in_X12 (by decide) hl rfl rfl hd e1 ?_
    exact ga_ifnull pf C.c hd2 e2 (kf c)
  · refine xd_getN pc1 2 C ((C.d3 h).2 c) (T := TX12) (N := 3) rfl in_X12 (by decide) hl rfl rfl hd e1 ?_
    exact ga_ifnullN pt C.c hd2 ht (kt c)
/-- the slots -/
theorem xa_slot (pc2 : Nat) (C : xw_C E cc nL fr lc RX X) {i : Int32} (hi : vp_in i 4) (hd : decode cc pc = .ok (.aaload, 1)) (e : pc + 1 = pc2)
    (k1 : ga_W E nL (xw_I E X z) ka na pc2 lo (.ref ((xS X).1 i.toNatClampNeg) :: st)) : ga_W E nL (xw_I E X z) ka na pc lo (.int i :: .ref (xg X 13) :: st) :=
  ga_aldq1 pc2 4 C.c C.j.1 (xd_P C.j.2.2.1.2.1) rfl hi rfl hd e k1
theorem xa_slotlen (pc2 : Nat) (C : xw_C E cc nL fr lc RX X) (hd : decode cc pc = .ok (.arraylength, 1)) (e : pc + 1 = pc2)
    (k1 : ga_W E nL (xw_I E X z) ka na pc2 lo (.int 4 :: st)) : ga_W E nL (xw_I E X z) ka na pc lo (.ref (xg X 13) :: st) := by
  subst e
  exact fun H locs ls hI hL => va_alen C.c.1 C.c.2 C.j.1 (xd_P C.j.2.2.1.2.1 H locs hI) 0 4 rfl (ty := .object "QuotedRiver$Slot") rfl (v := 4) (show Int32.ofNat 4 = 4 by decide) hd (k1 H locs ls hI hL)
theorem xs_s {X : XX} {A : Nat → Prop} {H : Heap} (h : xd X A H) {s : Nat} (hs : s < 4) : xd_at (xD X) A H ((xS X).1 s) (.inr (2, [xs_held (xS X) (xp X) s])) := (h.2.2 s hs).1
theorem xa_heldnn (pt pf : Nat) {pc1 : Nat} (C : xw_C E cc nL fr lc RX X) {idx s : Nat} {host : String} {off : Int} (hs : s < 4) (hl : Cond.fieldLinkNest RX idx RX1 "held" "Ljava/lang/Object;" host ∈ lw_tbl) (hd : decode cc pc = .ok (.getfield idx, 3)) (e1 : pc + 3 = pc1) (hd2 : decode cc pc1 = .ok (.ifnonnull off, 3)) (ht : (pc1 : Int) + off = (pt : Int)) (e2 : pc1 + 3 = pf)
    (kt : ¬ pm (xp X) s = -1 → ga_W E nL (xw_I E X z) ka na pt lo st) (kf : pm (xp X) s = -1 → ga_W E nL (xw_I E X z) ka na pf lo st) : ga_W E nL (xw_I E X z) ka na pc lo (.ref ((xS X).1 s) :: st) := by
  have hx := xs_s C.j.2.2.1 hs
  refine xd_getN pc1 0 C hx (T := TX1) (N := 1) rfl in_X1 (by decide) hl rfl rfl hd e1 ?_
  unfold xs_held
  by_cases c : pm (xp X) s = -1
  · rw [if_pos c]
    exact ga_ifnonnullN pf C.c hd2 e2 (kf c)
  · rw [if_neg c]
    exact ga_ifnonnull pt C.c hd2 ht (kt c)
/-- a question: its start and its end -/
def xw_Pc (X : XX) (z : MS) (as : List Value) : Array Value → State → Prop := va_Pc as (fun U => va_P (xD X) vwCl (xw_f (xg X) (xk X) z) U.heap ∧ xw_J X U)
def xw_Qc (X : XX) (z : MS) (v : Option Value) : Array Value → State → Outcome → State → Prop := fun _ st oc t => (oc = .returned v ∧ va_P (xD X) vwCl (xw_f (xg X) (xk X) z) t.heap) ∧ va_F (xw_A (xg X)) st t
theorem xw_J.moved {X : XX} {s U : State} {H : Heap} {locs : List Loc} (h : xw_J X s) (hW : s.WarmedH U.vm) (hH : U.heap = H) (hS : va_S (xw_A (xg X)) s.heap H locs) : xw_J X U := ⟨va_K.moved hW.alike h.1, h.2.1, by
  rw [hH]
  exact h.2.2.1.kept hS.2.1, h.2.2.2.1.warm hW, h.2.2.2.2.1.moved hW.alike, h.2.2.2.2.2.moved hW.alike⟩
theorem xw_J.calling {X : XX} {U : State} {g : JFrame} {mk : MethodId} {a : Array Value} (h : xw_J X U) : xw_J X (U.calling g mk a) := ⟨va_K.moved (u := U) (U := U.calling g mk a) (Vm.Alike.refl U.vm) h.1, h.2.1, h.2.2.1, h.2.2.2.1.vm rfl, h.2.2.2.2.1.moved (u := U) (U := U.calling g mk a) (Vm.Alike.refl U.vm), h.2.2.2.2.2.moved (u := U) (U := U.calling g mk a) (Vm.Alike.refl U.vm)⟩
theorem xw_of {l : Launch} {y : MethodName} {cc : ByteArray} {maxL : Nat} {ret : Option FieldType} {fr lc : Nat} {z z2 : MS} {as : List Value} {v : Option Value} (hy : plainName y.cls = true) (hcls : y.cls = RX) (hlen : (lg_sl as).length ≤ maxL) {lo : List (Option Value)} (hlo : ga_ps 0 lo = lv_args 0 as)
    (body : ∀ E : gE, xw_C E cc maxL fr lc RX X → (eT E).sig.returnType = ret → (eT E).locks = false → eQ E = MQ (eB E) (xw_Qc X z2 v) (eA E) (eS E) 0 0 (xw_A (xg X)) → ga_W E maxL (xw_I E X z) 0 0 0 lo []) :
    Met l y (ws_ y cc maxL ret) ({ frames := fr, cells := 0, slots := 0, locals := lc } : Room) (xw_Pc X z as) (xw_Qc X z2 v) 0 0 (xw_A (xg X)) := by
  refine Met.ofW (cc := cc) (maxL := maxL) (ret := ret) hy rfl ?_
  intro p e s m args below meth c s₁ B hml hv
  obtain ⟨rfl, hP, hJ⟩ := hv
  have hts := atoms_spec (ws := ws_ y cc maxL ret) B.pre
  have hts : ∀ w ∈ lw_all, w.before _ s = true := fun w h => hts w (List.mem_cons_of_mem _ h)
  have hown : s.vm.findClass RX = some m.cls := by rw [← hcls]; exact findClass_of_methodNamed B.named
  have hl := lv_entry as (n := maxL) hlen
  rw [lg_entry_eq]
  have K := body (p, l, e, (headSpec (ws_ y cc maxL ret) ({ frames := fr, cells := 0, slots := 0, locals := lc } : Room)).room, s, m, as.toArray, below, meth, c, MQ below (xw_Qc X z2 v) as.toArray s 0 0 (xw_A (xg X))) ⟨⟨B.exec, B.bytes⟩, hml, hown, hts, hJ, rfl⟩ B.returns B.notSynchronized rfl
  exact K s.heap [] _ ⟨hP, va_S.rf⟩ ⟨hl.1, hl.2.1, fun i v h => hl.2.2 (i, v) (by rw [← hlo]; exact (ga_ps_mem lo 0 i v).mpr ⟨i, by omega, h⟩)⟩
theorem xw_iret {v : Int32} {z2 : MS} {vv : Value} {rt : FieldType} (C : xw_C E cc nL fr lc RX X) (hr : (eT E).sig.returnType = some rt) (hlk : (eT E).locks = false) (hq : eQ E = MQ (eB E) (xw_Qc X z2 (some vv)) (eA E) (eS E) 0 0 (xw_A (xg X))) {w : Int32} (hn : narrow rt (.int v) = .int w) (ev : Value.int w = vv) (ez : z = z2) (hd : decode cc pc = .ok (.ireturn, 1)) : ga_W E nL (xw_I E X z) 0 0 pc lo [.int v] := by
  intro H locs ls hI hL
  subst ev
  subst ez
  rw [hq]
  exact ga_zret C.c.1 C.c.2 hr hn (fun t ht hW => ⟨⟨rfl, by rw [ht]; exact hI.1⟩, hI.2.F ht⟩) hI.2.2.2 hd hlk
theorem xw_lret {v : Int64} {z2 : MS} {vv : Value} (C : xw_C E cc nL fr lc RX X) (hr : (eT E).sig.returnType = some .long) (hlk : (eT E).locks = false) (hq : eQ E = MQ (eB E) (xw_Qc X z2 (some vv)) (eA E) (eS E) 0 0 (xw_A (xg X))) (ev : Value.long v = vv) (ez : z = z2) (hd : decode cc pc = .ok (.lreturn, 1)) : ga_W E nL (xw_I E X z) 0 0 pc lo [.long v] := by
  intro H locs ls hI hL
  subst ev
  subst ez
  rw [hq]
  exact W.lret C.c.1 C.c.2 hr (fun t ht hW => ⟨⟨rfl, by rw [ht]; exact hI.1⟩, hI.2.F ht⟩) hI.2.2.2 hd hlk
theorem xw_vret {z2 : MS} (C : xw_C E cc nL fr lc RX X) (hr : (eT E).sig.returnType = none) (hlk : (eT E).locks = false) (hq : eQ E = MQ (eB E) (xw_Qc X z2 none) (eA E) (eS E) 0 0 (xw_A (xg X))) (ez : z = z2) (hd : decode cc pc = .ok (.return_, 1)) : ga_W E nL (xw_I E X z) 0 0 pc lo [] := by
  intro H locs ls hI hL
  subst ez
  rw [hq]
  exact W.vret C.c.1 C.c.2 hr (fun t ht hW => ⟨⟨rfl, by rw [ht]; exact hI.1⟩, hI.2.F ht⟩) hI.2.2.2 hd hlk
theorem xw_aret {a : Nat} {z2 : MS} {vv : Value} {nm : String} (C : xw_C E cc nL fr lc RX X) (hr : (eT E).sig.returnType = some (.object nm)) (hlk : (eT E).locks = false) (hq : eQ E = MQ (eB E) (xw_Qc X z2 (some vv)) (eA E) (eS E) 0 0 (xw_A (xg X))) (ev : Value.ref a = vv) (ez : z = z2) (hd : decode cc pc = .ok (.areturn, 1)) : ga_W E nL (xw_I E X z) 0 0 pc lo [.ref a] := by
  intro H locs ls hI hL
  subst ev
  subst ez
  rw [hq]
  exact W.aret C.c.1 C.c.2 hr (Or.inl ⟨_, rfl⟩) (Or.inr ⟨_, rfl⟩) (fun t ht hW => ⟨⟨rfl, by rw [ht]; exact hI.1⟩, hI.2.F ht⟩) hI.2.2.2 hd hlk
theorem xw_pre {as : List Value} {H : Heap} {locs : List Loc} (C : xw_C E cc nL fr lc RX X) (hI : xw_I E X z H locs) : FrameBlind (xw_Pc X z as) ∧ ∀ U : State, U.heap = H → (eS E).WarmedH U.vm → xw_Pc X z as as.toArray U :=
  ⟨fun a U gg mk q => ⟨q.1, q.2.1, q.2.2.calling⟩, fun U hU hW => ⟨rfl, by rw [hU]; exact hI.1, C.j.moved hW hU hI.2⟩⟩
theorem xw_end {z2 : MS} {v : Option Value} {rest : List Value} {n : Nat} {ls : Array Slot} {H : Heap} {locs : List Loc} {T : State} {g : JFrame} {a : Array Value} (hI : xw_I E X z H locs) (hL : ga_L ls nL lo) (hg : g = F0 (eM E) pc ls g.stack)
    (h : ∃ (v2 : Option Value) (st0 t T2 : State) (L : List Loc), st0.heap = H ∧ Stand (eP E) (eL E) (eV E) (eR E) (eS E) (eM E) (eA E) (eB E) (eT E) (eC E) T2 (locs ++ L) (0 + 0) (0 + 0) ∧ (∀ q ∈ L, xw_A (xg X) q.base) ∧ T2.heap = t.heap ∧ T2.vm = t.vm ∧ xw_Qc X z2 v a st0 (.returned v2) t ∧ Goes (eP E) (eV E) (eB E) T g T2 { g with pc := g.pc + n, stack := v2.toList ++ rest })
    (k1 : ga_W E nL (xw_I E X z2) 0 0 (pc + n) lo (v.toList ++ rest)) : ∃ t, Steps (eP E).tables (eV E) (eB E) (T.setTop g) t ∧ eQ E t := by
  obtain ⟨v2, st0, t, T2, L, h0, X2, hL2, e1, e2, ⟨⟨hv, hP2⟩, hF⟩, stp⟩ := h
  cases hv
  obtain ⟨t2, a1, b1⟩ := k1 T2.heap (locs ++ L) ls ⟨by rw [e1]; exact hP2, ga_step hI.2 h0 e1 hF hL2⟩ hL T2 rfl X2
  refine ⟨t2, stp t2 ?_, b1⟩
  rw [hg]
  exact a1
/-- a call of a question: of the class's own, through the object at place q0 -/
theorem xa_callV (pc2 q0 : Nat) (C : xw_C E cc nL fr lc RX X) {a ci : Nat} {fs : List Value} {Cn : String} {T : u_T} {N : Nat} {y : MethodName} {bytes : ByteArray} {maxL idx n f2 l2 : Nat} {ret : Option FieldType} {z2 : MS} {as : List Value} {v : Option Value}
    (hM : Met (eL E) y (ws_ y bytes maxL ret) ({ frames := f2, cells := 0, slots := 0, locals := l2 } : Room) (xw_Pc X z (.ref a :: as)) (xw_Qc X z2 v) 0 0 (xw_A (xg X)))
    (ha : (xw_f (xg X) (xk X) z)[q0]? = some (a, .inr (ci, fs))) (hcl : vwCl[ci]? = some (Cn, T, N)) (hw : GoodIn lw_all (wsV RX idx Cn y (ws_ y bytes maxL ret))) (hdd : y.cls = Cn ∧ y.cls ≠ "java/lang/invoke/MethodHandle" ∧ y.cls ≠ "java/lang/invoke/VarHandle" ∧ (parseMethodDescriptor y.desc).map (fun d => d.parameters.length) = some n) (hn : as.length = n)
    (hf : f2 + 1 ≤ fr) (hlc : 8 + (maxL + 11) + l2 ≤ lc) (hst : (st.map fun v => v.category).sum ≤ 8) (hd : decode cc pc = .ok (.invokevirtual idx, 3)) (e : pc + 3 = pc2)
    (k1 : ga_W E nL (xw_I E X z2) 0 0 pc2 lo (v.toList ++ st)) : ga_W E nL (xw_I E X z) 0 0 pc lo (as.reverse ++ .ref a :: st) := by
  subst e
  intro H locs ls hI hL T hT S
  have cw : CallW (eR E) (eS E) (eA E) RX Cn idx y bytes maxL ret (ws_ y bytes maxL ret) ({ frames := f2, cells := 0, slots := 0, locals := l2 } : Room) 0 0 n := cwV n C.ts hw rfl rfl rfl hdd (by rw [C.rm]; exact ⟨hf, hlc⟩)
  have hp := xw_pre (as := .ref a :: as) C hI
  exact xw_end hI hL rfl (va_runV (S := (⟨C.c.1, C.c.2, C.ml, C.ow, C.ts⟩ : CallFix (eP E) (eM E) (eC E) cc nL (eS E) (eA E) lw_all RX)) hM cw ⟨hp.1, va_recv C.j.1 hI.1 (ci := ci) (q0 := q0) hcl ha, hp.2⟩ (g := F0 (eM E) pc ls (as.reverse ++ .ref a :: st)) (rest := st) rfl hn hL.1 rfl (lv_room hst) hd (by rw [C.rm]; exact ⟨Nat.le_refl _, Nat.le_refl _⟩) T hT S) k1
/-- a call of a nest mate's method that is its own alone -/
theorem xa_callVN (pc2 q0 : Nat) (C : xw_C E cc nL fr lc RX X) {a ci : Nat} {fs : List Value} {Cn host : String} {T : u_T} {N : Nat} {y : MethodName} {bytes : ByteArray} {maxL idx n f2 l2 : Nat} {ret : Option FieldType} {z2 : MS} {as : List Value} {v : Option Value}
    (hM : Met (eL E) y (ws_ y bytes maxL ret) ({ frames := f2, cells := 0, slots := 0, locals := l2 } : Room) (xw_Pc X z (.ref a :: as)) (xw_Qc X z2 v) 0 0 (xw_A (xg X)))
    (ha : (xw_f (xg X) (xk X) z)[q0]? = some (a, .inr (ci, fs))) (hcl : vwCl[ci]? = some (Cn, T, N)) (hl : Cond.methodLinkNest RX idx y host ∈ lw_tbl) (h2 : Cond.instanceMethod y ∈ lw_all) (h3 : Cond.selects Cn y y ∈ lw_all) (h4 : Cond.initialized y.cls ∈ lw_all) (h5 : Cond.code y bytes maxL ret ∈ lw_all) (hdd : y.cls = Cn ∧ y.cls ≠ "java/lang/invoke/MethodHandle" ∧ y.cls ≠ "java/lang/invoke/VarHandle" ∧ (parseMethodDescriptor y.desc).map (fun d => d.parameters.length) = some n) (hn : as.length = n)
    (hf : f2 + 1 ≤ fr) (hlc : 8 + (maxL + 11) + l2 ≤ lc) (hst : (st.map fun v => v.category).sum ≤ 8) (hd : decode cc pc = .ok (.invokevirtual idx, 3)) (e : pc + 3 = pc2)
    (k1 : ga_W E nL (xw_I E X z2) 0 0 pc2 lo (v.toList ++ st)) : ga_W E nL (xw_I E X z) 0 0 pc lo (as.reverse ++ .ref a :: st) := by
  subst e
  intro H locs ls hI hL T hT S
  have cw : va_CN (eR E) (eS E) (eA E) RX idx y host bytes maxL ret (ws_ y bytes maxL ret) ({ frames := f2, cells := 0, slots := 0, locals := l2 } : Room) 0 0 n := va_cnB n C.ts (lw_meth h5) rfl rfl rfl (C.j.2.2.2.1 _ hl rfl) (C.ts _ h4) hdd.2 (by rw [C.rm]; exact ⟨hf, hlc⟩)
  have hp := xw_pre (as := .ref a :: as) C hI
  exact xw_end hI hL rfl (va_runVN (C := Cn) (S := (⟨C.c.1, C.c.2, C.ml, C.ow, C.ts⟩ : CallFix (eP E) (eM E) (eC E) cc nL (eS E) (eA E) lw_all RX)) hM ⟨cw, C.ts _ h2, C.ts _ h3⟩ ⟨hp.1, va_recv C.j.1 hI.1 (ci := ci) (q0 := q0) hcl ha, hp.2⟩ (g := F0 (eM E) pc ls (as.reverse ++ .ref a :: st)) (rest := st) rfl hn hL.1 rfl (lv_room hst) hd (by rw [C.rm]; exact ⟨Nat.le_refl _, Nat.le_refl _⟩) T hT S) k1
theorem xa_callS (pc2 : Nat) (C : xw_C E cc nL fr lc RX X) {y : MethodName} {bytes : ByteArray} {maxL idx n f2 l2 : Nat} {ret : Option FieldType} {as : List Value} {v : Option Value}
    (hM : Met (eL E) y (ws_ y bytes maxL ret) ({ frames := f2, cells := 0, slots := 0, locals := l2 } : Room) (ps_Pc as) (ps_Qc v) 0 0 (fun _ => False))
    (hw : GoodIn lw_all (va_wsS RX idx y (ws_ y bytes maxL ret))) (hdd : y.cls ≠ "java/lang/invoke/MethodHandle" ∧ y.cls ≠ "java/lang/invoke/VarHandle" ∧ (parseMethodDescriptor y.desc).map (fun d => d.parameters.length) = some n) (hn : as.length = n)
    (hf : f2 + 1 ≤ fr) (hlc : 8 + (maxL + 11) + l2 ≤ lc) (hst : (st.map fun v => v.category).sum ≤ 8) (hd : decode cc pc = .ok (.invokestatic idx, 3)) (e : pc + 3 = pc2)
    (k1 : ga_W E nL (xw_I E X z) 0 0 pc2 lo (v.toList ++ st)) : ga_W E nL (xw_I E X z) 0 0 pc lo (as.reverse ++ st) := by
  subst e
  exact ga_callS _ (RX := RX) C.c C.ml C.ow C.ts hM hw hdd hn (by rw [C.rm]; exact hf) (by rw [C.rm]; exact hlc) (by rw [C.rm]; exact Nat.le_refl _) (by rw [C.rm]; exact Nat.le_refl _) hst hd rfl k1
theorem xa_callSN (pc2 : Nat) (C : xw_C E cc nL fr lc RX X) {y : MethodName} {host : String} {bytes : ByteArray} {maxL idx n f2 l2 : Nat} {ret : Option FieldType} {as : List Value} {v : Option Value}
    (hM : Met (eL E) y (ws_ y bytes maxL ret) ({ frames := f2, cells := 0, slots := 0, locals := l2 } : Room) (ps_Pc as) (ps_Qc v) 0 0 (fun _ => False))
    (hl : Cond.methodLinkNest RX idx y host ∈ lw_tbl) (h2 : Cond.static y ∈ lw_all) (h4 : Cond.initialized y.cls ∈ lw_all) (h5 : Cond.code y bytes maxL ret ∈ lw_all) (hdd : y.cls ≠ "java/lang/invoke/MethodHandle" ∧ y.cls ≠ "java/lang/invoke/VarHandle" ∧ (parseMethodDescriptor y.desc).map (fun d => d.parameters.length) = some n) (hn : as.length = n)
    (hf : f2 + 1 ≤ fr) (hlc : 8 + (maxL + 11) + l2 ≤ lc) (hst : (st.map fun v => v.category).sum ≤ 8) (hd : decode cc pc = .ok (.invokestatic idx, 3)) (e : pc + 3 = pc2)
    (k1 : ga_W E nL (xw_I E X z) 0 0 pc2 lo (v.toList ++ st)) : ga_W E nL (xw_I E X z) 0 0 pc lo (as.reverse ++ st) := by
  subst e
  intro H locs ls hI hL T hT S
  have cw : va_CN (eR E) (eS E) (eA E) RX idx y host bytes maxL ret (ws_ y bytes maxL ret) ({ frames := f2, cells := 0, slots := 0, locals := l2 } : Room) 0 0 n := va_cnB n C.ts (lw_meth h5) rfl rfl rfl (C.j.2.2.2.1 _ hl rfl) (C.ts _ h4) hdd (by rw [C.rm]; exact ⟨hf, hlc⟩)
  exact rd_end hI hL rfl (va_runSN (S := (⟨C.c.1, C.c.2, C.ml, C.ow, C.ts⟩ : CallFix (eP E) (eM E) (eC E) cc nL (eS E) (eA E) lw_all RX)) hM ⟨cw, C.ts _ h2, trivial⟩ ⟨fun a U g mk q => ⟨q.1, trivial⟩, fun U hU hW => ⟨rfl, trivial⟩⟩ (g := F0 (eM E) pc ls (as.reverse ++ st)) (rest := st) rfl hn hL.1 rfl (lv_room hst) hd (by rw [C.rm]; exact ⟨Nat.le_refl _, Nat.le_refl _⟩) T hT S) k1
end XW
