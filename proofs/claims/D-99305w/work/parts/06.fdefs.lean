set_option maxRecDepth 100000
def fX6_in (a1 : Int64) (a2 : Int64) (a3 : Int64) : Int32 :=
  if (lg_cmp a1 a2) < 0 then ((0 : Int32)) else (if (0 : Int32) < (lg_cmp a1 a3) then ((0 : Int32)) else ((1 : Int32)))
theorem cd_X6_in : yX6_in.cls ≠ "java/lang/invoke/MethodHandle" ∧ yX6_in.cls ≠ "java/lang/invoke/VarHandle" ∧ (parseMethodDescriptor yX6_in.desc).map (fun d => d.parameters.length) = some 3 := by decide +kernel
def fX6_image_L17 (p1 : Int32) (v2 : Int32) (z3 : MS) : Option ((Int32 × MS) ⊕ (MS)) :=
  if (98 : Int32) ≤ v2 then (some (.inr (z3))) else (pu_g v2 98 (pu_g ((98 * p1) + v2) 294 (let z12 := msa z3 2 ((98 * p1) + v2) (ma z3 1 v2.toNatClampNeg); some (.inl (v2 + 1, z12)))))
def fX6_image (z : MS) (a1 : Int32) : Option (Int32 × MS) :=
  if (fX6_in a1.toInt64 (0 : Int64) (2 : Int64)) = 0 then (some (((-2) : Int32), z)) else (pu_b1 (pu_it (fun q => fX6_image_L17 a1 q.1 q.2) pu_F ((0 : Int32), z)) fun z13 => pu_g a1 3 (let z15 := msa z13 3 a1 1; some ((0 : Int32), z15)))
theorem cd_X6_image : yX6_image.cls = RX6 ∧ yX6_image.cls ≠ "java/lang/invoke/MethodHandle" ∧ yX6_image.cls ≠ "java/lang/invoke/VarHandle" ∧ (parseMethodDescriptor yX6_image.desc).map (fun d => d.parameters.length) = some 1 := by decide +kernel
def fX6_back_L29 (p2 : Int32) (v3 : Int32) (z4 : MS) : Option ((Int32 × MS) ⊕ (MS)) :=
  if (98 : Int32) ≤ v3 then (some (.inr (z4))) else (pu_g ((98 * p2) + v3) 294 (pu_g v3 98 (let z13 := msa z4 1 v3 (ma z4 2 ((98 * p2) + v3 : Int32).toNatClampNeg); some (.inl (v3 + 1, z13)))))
def fX6_back (z : MS) (a1 : Int32) : Option (Int32 × MS) :=
  if (fX6_in a1.toInt64 (0 : Int64) (2 : Int64)) = 0 then (some (((-2) : Int32), z)) else (pu_g a1 3 (if (ma z 3 a1.toNatClampNeg) = 0 then (some (((-6) : Int32), z)) else (pu_b1 (pu_it (fun q => fX6_back_L29 a1 q.1 q.2) pu_F ((0 : Int32), z)) fun z14 => some ((0 : Int32), z14))))
theorem cd_X6_back : yX6_back.cls = RX6 ∧ yX6_back.cls ≠ "java/lang/invoke/MethodHandle" ∧ yX6_back.cls ≠ "java/lang/invoke/VarHandle" ∧ (parseMethodDescriptor yX6_back.desc).map (fun d => d.parameters.length) = some 1 := by decide +kernel
def fX6_feed_L55 (v6 : Int32) (z7 : MS) : Option ((Int32 × MS) ⊕ (MS)) :=
  if (20 : Int32) ≤ v6 then (some (.inr (z7))) else (pu_g (v6 / 4) 5 (pu_g ((mi z7 5) + v6) 700 (let z16 := msa z7 4 ((mi z7 5) + v6) (vp_nar .byte (((ma z7 6 (v6 / 4 : Int32).toNatClampNeg : Int32) >>> ((24 - (8 * (v6 - v6 / 4 * 4)) : Int32) &&& 31) : Int32).toInt8.toInt32)); some (.inl (v6 + 1, z16)))))
def fX6_feed (z : MS) (a1 : Int32) (a2 : Int32) (a3 : Int32) (a4 : Int32) (a5 : Int32) : Option (Int32 × MS) :=
  if ((mi z 5) + 20) ≤ 700 then (let z1 := msa z 6 0 a1; let z2 := msa z1 6 1 a2; let z3 := msa z2 6 2 a3; let z4 := msa z3 6 3 a4; let z5 := msa z4 6 4 a5; pu_b1 (pu_it (fun q => fX6_feed_L55 q.1 q.2) pu_F ((0 : Int32), z5)) fun z17 => let z18 := msi z17 5 ((mi z17 5) + 20); some (mi z18 5, z18)) else (some (((-1) : Int32), z))
theorem cd_X6_feed : yX6_feed.cls = RX6 ∧ yX6_feed.cls ≠ "java/lang/invoke/MethodHandle" ∧ yX6_feed.cls ≠ "java/lang/invoke/VarHandle" ∧ (parseMethodDescriptor yX6_feed.desc).map (fun d => d.parameters.length) = some 5 := by decide +kernel
def fX6_end (z : MS) (a1 : Int32) : Int32 × MS :=
  if (fX6_in a1.toInt64 (0 : Int64) ((mi z 5 : Int32).toInt64)) = 0 then ((((-1) : Int32), z)) else (let z1 := msi z 5 a1; (a1, z1))
theorem cd_X6_end : yX6_end.cls = RX6 ∧ yX6_end.cls ≠ "java/lang/invoke/MethodHandle" ∧ yX6_end.cls ≠ "java/lang/invoke/VarHandle" ∧ (parseMethodDescriptor yX6_end.desc).map (fun d => d.parameters.length) = some 1 := by decide +kernel
def fX6_fault (z : MS) (a1 : Int32) : Int32 :=
  if a1 = 0 then (mi z 12) else (if a1 = 1 then (mi z 13) else (((-1) : Int32)))
theorem cd_X6_fault : yX6_fault.cls = RX6 ∧ yX6_fault.cls ≠ "java/lang/invoke/MethodHandle" ∧ yX6_fault.cls ≠ "java/lang/invoke/VarHandle" ∧ (parseMethodDescriptor yX6_fault.desc).map (fun d => d.parameters.length) = some 1 := by decide +kernel
def fX6_see (z : MS) (a1 : Int32) : Option (Int32) :=
  if (mi z 7) ≤ a1 then (some ((-1) : Int32)) else (pu_g a1 700 (some ((ma z 4 a1.toNatClampNeg) &&& 255)))
theorem cd_X6_see : yX6_see.cls = RX6 ∧ yX6_see.cls ≠ "java/lang/invoke/MethodHandle" ∧ yX6_see.cls ≠ "java/lang/invoke/VarHandle" ∧ (parseMethodDescriptor yX6_see.desc).map (fun d => d.parameters.length) = some 1 := by decide +kernel
def fX6_advance_L0 (z1 : MS) : Option ((MS) ⊕ (MS)) :=
  pu_b1 (fX6_see z1 (mi z1 8)) fun v8 => if v8 = 32 then (let z10 := msi z1 8 ((mi z1 8) + 1); some (.inl (z10))) else (pu_b1 (fX6_see z1 (mi z1 8)) fun v11 => if v11 = 10 then (let z13 := msi z1 8 ((mi z1 8) + 1); some (.inl (z13))) else (some (.inr (z1))))
def fX6_advance_L144 (z24 : MS) : Option ((MS) ⊕ (MS)) :=
  pu_b1 (fX6_see z24 (mi z24 8)) fun v31 => if (fX6_in v31.toInt64 (48 : Int64) (57 : Int64)) = 0 then (some (.inr (z24))) else (pu_b1 (fX6_see z24 (mi z24 8)) fun v33 => let z35 := msi z24 11 (pu_min (99999 : Int32) (((10 * (mi z24 11)) + v33) - 48)); let z36 := msi z35 8 ((mi z35 8) + 1); some (.inl (z36)))
def fX6_advance_L83 (z39 : MS) : Option ((MS) ⊕ (MS)) :=
  pu_b1 (fX6_see z39 (mi z39 8)) fun v46 => if (fX6_in v46.toInt64 (97 : Int64) (122 : Int64)) = 0 then (some (.inr (z39))) else (let z48 := msi z39 8 ((mi z39 8) + 1); some (.inl (z48)))
def fX6_advance (z : MS) : Option (MS) :=
  pu_b1 (pu_it (fun q => fX6_advance_L0 q) pu_F (z)) fun z14 => let z15 := msi z14 9 (mi z14 8); pu_b1 (fX6_see z15 (mi z15 8)) fun v16 => if v16 = (-1) then (let z51 := msi z15 10 0; some z51) else (if (fX6_in v16.toInt64 (97 : Int64) (122 : Int64)) = 0 then (if (fX6_in v16.toInt64 (48 : Int64) (57 : Int64)) = 0 then (pu_l1 (if v16 = 59 then ((3 : Int32)) else ((4 : Int32)) : Int32) fun v18 => let z21 := msi z15 10 v18; let z22 := msi z21 8 ((mi z21 8) + 1); some z22) else (let z23 := msi z15 11 0; pu_b1 (pu_it (fun q => fX6_advance_L144 q) pu_F (z23)) fun z37 => let z38 := msi z37 10 2; some z38)) else (pu_b1 (pu_it (fun q => fX6_advance_L83 q) pu_F (z15)) fun z49 => let z50 := msi z49 10 1; some z50))
theorem cd_X6_advance : yX6_advance.cls = RX6 ∧ yX6_advance.cls ≠ "java/lang/invoke/MethodHandle" ∧ yX6_advance.cls ≠ "java/lang/invoke/VarHandle" ∧ (parseMethodDescriptor yX6_advance.desc).map (fun d => d.parameters.length) = some 0 := by decide +kernel
def fX6_good (z : MS) : Int32 :=
  if (mi z 12) = 0 then ((1 : Int32)) else ((0 : Int32))
theorem cd_X6_good : yX6_good.cls = RX6 ∧ yX6_good.cls ≠ "java/lang/invoke/MethodHandle" ∧ yX6_good.cls ≠ "java/lang/invoke/VarHandle" ∧ (parseMethodDescriptor yX6_good.desc).map (fun d => d.parameters.length) = some 0 := by decide +kernel
def fX6_errs (z : MS) (a1 : Int32) : MS :=
  if (fX6_good z) = 0 then z else (let z1 := msi z 12 a1; let z2 := msi z1 13 (mi z1 9); z2)
theorem cd_X6_errs : yX6_errs.cls = RX6 ∧ yX6_errs.cls ≠ "java/lang/invoke/MethodHandle" ∧ yX6_errs.cls ≠ "java/lang/invoke/VarHandle" ∧ (parseMethodDescriptor yX6_errs.desc).map (fun d => d.parameters.length) = some 1 := by decide +kernel
def fX6_is_L39 (zc5 : MS) (w4 : Nat) (v6 : Int32) (v7 : Int32) : Option ((Int32 × Int32) ⊕ (Int32)) :=
  if (tx_l w4) ≤ v7 then (some (.inr (v6))) else (if v6 = 0 then (some (.inr (v6))) else (pu_g ((mi zc5 9) + v7) 700 (pu_g v7 (tx_len.getD w4 0) (if (ma zc5 4 ((mi zc5 9) + v7 : Int32).toNatClampNeg) = (tx_c w4 v7) then (some (.inl ((1 : Int32), v7 + 1))) else (some (.inl ((0 : Int32), v7 + 1)))))))
def fX6_is (z : MS) (a1 : Nat) : Option (Int32) :=
  pu_l1 (if (fX6_good z) = 0 then ((0 : Int32)) else (if (mi z 10) = 1 then (if ((mi z 8) - (mi z 9)) = (tx_l a1) then ((1 : Int32)) else ((0 : Int32))) else ((0 : Int32))) : Int32) fun v1 => pu_b1 (pu_it (fun q => fX6_is_L39 z a1 q.1 q.2) pu_F (v1, (0 : Int32))) fun v16 => some (vp_nar .boolean v16)
theorem cd_X6_is : yX6_is.cls = RX6 ∧ yX6_is.cls ≠ "java/lang/invoke/MethodHandle" ∧ yX6_is.cls ≠ "java/lang/invoke/VarHandle" ∧ (parseMethodDescriptor yX6_is.desc).map (fun d => d.parameters.length) = some 1 := by decide +kernel
def fX6_takes (z : MS) (a1 : Nat) : Option (Int32 × MS) :=
  pu_b1 (fX6_is z a1) fun v1 => if v1 = 0 then (some (vp_nar .boolean v1, z)) else (pu_b1 (fX6_advance z) fun z3 => some (vp_nar .boolean v1, z3))
theorem cd_X6_takes : yX6_takes.cls = RX6 ∧ yX6_takes.cls ≠ "java/lang/invoke/MethodHandle" ∧ yX6_takes.cls ≠ "java/lang/invoke/VarHandle" ∧ (parseMethodDescriptor yX6_takes.desc).map (fun d => d.parameters.length) = some 1 := by decide +kernel
def fX6_needs (z : MS) (a1 : Nat) : Option (MS) :=
  pu_b2 (fX6_takes z a1) fun v1 z2 => if v1 = 0 then (pu_l1 (fX6_errs z2 (1 : Int32)) fun z4 => some z4) else (some z2)
theorem cd_X6_needs : yX6_needs.cls = RX6 ∧ yX6_needs.cls ≠ "java/lang/invoke/MethodHandle" ∧ yX6_needs.cls ≠ "java/lang/invoke/VarHandle" ∧ (parseMethodDescriptor yX6_needs.desc).map (fun d => d.parameters.length) = some 1 := by decide +kernel
def fX6_number (z : MS) (a1 : Int32) (a2 : Int32) : Option (Int32 × MS) :=
  pu_l1 (if (fX6_good z) = 0 then z else (if (mi z 10) = 2 then z else (pu_l1 (fX6_errs z (1 : Int32)) fun z12 => z12)) : MS) fun z1 => pu_l1 (if (fX6_good z1) = 0 then z1 else (if (fX6_in ((mi z1 11 : Int32).toInt64) a1.toInt64 a2.toInt64) = 0 then (pu_l1 (fX6_errs z1 (2 : Int32)) fun z10 => z10) else z1) : MS) fun z4 => if (fX6_good z4) = 0 then (some ((0 : Int32), z4)) else (pu_l1 (mi z4 11 : Int32) fun v7 => pu_b1 (fX6_advance z4) fun z8 => some (v7, z8))
theorem cd_X6_number : yX6_number.cls = RX6 ∧ yX6_number.cls ≠ "java/lang/invoke/MethodHandle" ∧ yX6_number.cls ≠ "java/lang/invoke/VarHandle" ∧ (parseMethodDescriptor yX6_number.desc).map (fun d => d.parameters.length) = some 2 := by decide +kernel
def fX6_told (z : MS) (a1 : Nat) (a2 : Int32) (a3 : Int32) : Option (Int32 × MS) :=
  pu_b1 (fX6_needs z a1) fun z1 => pu_b2 (fX6_number z1 a2 a3) fun v3 z4 => some (v3, z4)
theorem cd_X6_told : yX6_told.cls = RX6 ∧ yX6_told.cls ≠ "java/lang/invoke/MethodHandle" ∧ yX6_told.cls ≠ "java/lang/invoke/VarHandle" ∧ (parseMethodDescriptor yX6_told.desc).map (fun d => d.parameters.length) = some 3 := by decide +kernel
def fX6_readFirst (z : MS) : Option (MS) :=
  pu_b1 (fX6_needs z 0) fun z1 => pu_b2 (fX6_told z1 1 (0 : Int32) (60 : Int32)) fun v3 z4 => let z6 := msa z4 14 0 v3; pu_b2 (fX6_told z6 2 (0 : Int32) (10 : Int32)) fun v7 z8 => let z10 := msa z8 14 1 v7; pu_b2 (fX6_told z10 3 (1 : Int32) (9 : Int32)) fun v11 z12 => let z14 := msa z12 14 2 v11; some z14
theorem cd_X6_readFirst : yX6_readFirst.cls = RX6 ∧ yX6_readFirst.cls ≠ "java/lang/invoke/MethodHandle" ∧ yX6_readFirst.cls ≠ "java/lang/invoke/VarHandle" ∧ (parseMethodDescriptor yX6_readFirst.desc).map (fun d => d.parameters.length) = some 0 := by decide +kernel
def fX6_readJoin (z : MS) : Option (MS) :=
  pu_l1 (38 + (4 * (ma z 14 (4 : Int32).toNatClampNeg)) : Int32) fun v1 => pu_b2 (fX6_number z (0 : Int32) ((ma z 14 (3 : Int32).toNatClampNeg) - 1)) fun v2 z3 => pu_g v1 98 (let z6 := msa z3 14 v1 v2; pu_b2 (fX6_told z6 7 (0 : Int32) ((ma z6 14 (3 : Int32).toNatClampNeg) - 1)) fun v7 z8 => pu_g (v1 + 1) 98 (let z11 := msa z8 14 (v1 + 1) v7; pu_b2 (fX6_told z11 11 (1 : Int32) (9 : Int32)) fun v12 z13 => pu_g (v1 + 2) 98 (let z16 := msa z13 14 (v1 + 2) v12; pu_g (v1 + 2) 98 (pu_b2 (fX6_told z16 12 (0 : Int32) ((ma z16 14 (v1 + 2 : Int32).toNatClampNeg) - 1)) fun v18 z19 => pu_g (v1 + 3) 98 (let z22 := msa z19 14 (v1 + 3) v18; let z23 := msa z22 14 4 ((ma z22 14 (4 : Int32).toNatClampNeg) + 1); some z23)))))
theorem cd_X6_readJoin : yX6_readJoin.cls = RX6 ∧ yX6_readJoin.cls ≠ "java/lang/invoke/MethodHandle" ∧ yX6_readJoin.cls ≠ "java/lang/invoke/VarHandle" ∧ (parseMethodDescriptor yX6_readJoin.desc).map (fun d => d.parameters.length) = some 0 := by decide +kernel
def fX6_readRain (z : MS) : Option (MS) :=
  pu_l1 (58 + (2 * (ma z 14 (5 : Int32).toNatClampNeg)) : Int32) fun v1 => pu_b2 (fX6_number z (1 : Int32) (30 : Int32)) fun v2 z3 => pu_g v1 98 (let z6 := msa z3 14 v1 v2; pu_b2 (fX6_told z6 12 (0 : Int32) (60 : Int32)) fun v7 z8 => pu_g (v1 + 1) 98 (let z11 := msa z8 14 (v1 + 1) v7; let z12 := msa z11 14 5 ((ma z11 14 (5 : Int32).toNatClampNeg) + 1); some z12))
theorem cd_X6_readRain : yX6_readRain.cls = RX6 ∧ yX6_readRain.cls ≠ "java/lang/invoke/MethodHandle" ∧ yX6_readRain.cls ≠ "java/lang/invoke/VarHandle" ∧ (parseMethodDescriptor yX6_readRain.desc).map (fun d => d.parameters.length) = some 0 := by decide +kernel
def fX6_readReach (z : MS) : Option (MS) :=
  pu_l1 (8 + (3 * (ma z 14 (3 : Int32).toNatClampNeg)) : Int32) fun v1 => pu_b1 (fX6_needs z 7) fun z2 => pu_b2 (fX6_takes z2 8) fun v4 z5 => pu_b2 (if v4 = 0 then (pu_b2 (fX6_number z5 (0 : Int32) (9 : Int32)) fun v24 z25 => some (v24, z25)) else (some (((-1) : Int32), z5)) : Option (Int32 × MS)) fun v7 z8 => pu_g (v1 + 0) 98 (let z12 := msa z8 14 (v1 + 0) v7; pu_b2 (fX6_told z12 9 (1 : Int32) (5 : Int32)) fun v13 z14 => pu_g (v1 + 1) 98 (let z17 := msa z14 14 (v1 + 1) v13; pu_b2 (fX6_told z17 10 (0 : Int32) (20 : Int32)) fun v18 z19 => pu_g (v1 + 2) 98 (let z22 := msa z19 14 (v1 + 2) v18; let z23 := msa z22 14 3 ((ma z22 14 (3 : Int32).toNatClampNeg) + 1); some z23)))
theorem cd_X6_readReach : yX6_readReach.cls = RX6 ∧ yX6_readReach.cls ≠ "java/lang/invoke/MethodHandle" ∧ yX6_readReach.cls ≠ "java/lang/invoke/VarHandle" ∧ (parseMethodDescriptor yX6_readReach.desc).map (fun d => d.parameters.length) = some 0 := by decide +kernel
def fX6_readNext (z : MS) : Option (MS) :=
  pu_b1 (fX6_is z 4) fun v1 => pu_b1 (if v1 = 0 then (pu_b1 (fX6_is z 5) fun v41 => if v41 = 0 then (pu_b1 (fX6_is z 6) fun v43 => if v43 = 0 then (pu_l1 (fX6_errs z (1 : Int32)) fun z45 => some z45) else (some z)) else (some z)) else (some z) : Option (MS)) fun z3 => pu_b1 (fX6_is z3 4) fun v6 => pu_l1 (if v6 = 0 then z3 else (if (ma z3 14 (3 : Int32).toNatClampNeg) = 10 then (pu_l1 (fX6_errs z3 (3 : Int32)) fun z39 => z39) else z3) : MS) fun z8 => pu_b1 (fX6_is z8 5) fun v11 => pu_l1 (if v11 = 0 then z8 else (if (ma z8 14 (4 : Int32).toNatClampNeg) = 5 then (pu_l1 (fX6_errs z8 (3 : Int32)) fun z37 => z37) else z8) : MS) fun z13 => pu_b1 (fX6_is z13 6) fun v16 => pu_l1 (if v16 = 0 then z13 else (if (ma z13 14 (5 : Int32).toNatClampNeg) = 5 then (pu_l1 (fX6_errs z13 (3 : Int32)) fun z35 => z35) else z13) : MS) fun z18 => if (fX6_good z18) = 0 then (some z18) else (pu_b2 (fX6_takes z18 4) fun v21 z22 => if v21 = 0 then (pu_b2 (fX6_takes z22 5) fun v24 z25 => if v24 = 0 then (pu_b1 (fX6_advance z25) fun z27 => pu_b1 (fX6_readRain z27) fun z29 => some z29) else (pu_b1 (fX6_readJoin z25) fun z31 => some z31)) else (pu_b1 (fX6_readReach z22) fun z33 => some z33))
theorem cd_X6_readNext : yX6_readNext.cls = RX6 ∧ yX6_readNext.cls ≠ "java/lang/invoke/MethodHandle" ∧ yX6_readNext.cls ≠ "java/lang/invoke/VarHandle" ∧ (parseMethodDescriptor yX6_readNext.desc).map (fun d => d.parameters.length) = some 0 := by decide +kernel
def fX6_readLine (z : MS) : Option (MS) :=
  pu_b1 (if (ma z 14 (7 : Int32).toNatClampNeg) = 0 then (pu_b1 (fX6_readFirst z) fun z17 => some z17) else (pu_b1 (fX6_readNext z) fun z15 => some z15) : Option (MS)) fun z1 => pu_l1 (if (fX6_good z1) = 0 then z1 else (if (mi z1 10) = 3 then z1 else (pu_l1 (fX6_errs z1 (1 : Int32)) fun z13 => z13)) : MS) fun z4 => pu_b1 (if (fX6_good z4) = 0 then (some z4) else (pu_b1 (fX6_advance z4) fun z11 => some z11) : Option (MS)) fun z7 => let z10 := msa z7 14 7 ((ma z7 14 (7 : Int32).toNatClampNeg) + 1); some z10
theorem cd_X6_readLine : yX6_readLine.cls = RX6 ∧ yX6_readLine.cls ≠ "java/lang/invoke/MethodHandle" ∧ yX6_readLine.cls ≠ "java/lang/invoke/VarHandle" ∧ (parseMethodDescriptor yX6_readLine.desc).map (fun d => d.parameters.length) = some 0 := by decide +kernel
def fX6_rivers_L30 (v6 : Int32) (z7 : MS) : Option ((Int32 × MS) ⊕ (MS)) :=
  if (98 : Int32) ≤ v6 then (some (.inr (z7))) else (pu_g v6 98 (let z15 := msa z7 14 v6 0; some (.inl (v6 + 1, z15))))
def fX6_rivers_L53 (z19 : MS) : Option ((MS) ⊕ (MS)) :=
  if (fX6_good z19) = 0 then (some (.inr (z19))) else (if (mi z19 10) = 0 then (some (.inr (z19))) else (pu_b1 (fX6_readLine z19) fun z26 => some (.inl (z26))))
def fX6_rivers_L86 (v29 : Int32) (z30 : MS) : Option ((Int32 × MS) ⊕ (MS)) :=
  if (ma z30 14 (3 : Int32).toNatClampNeg) ≤ v29 then (some (.inr (z30))) else (pu_g ((8 + (3 * v29)) + 0) 98 (if (ma z30 14 ((8 + (3 * v29)) + 0 : Int32).toNatClampNeg) < (ma z30 14 (3 : Int32).toNatClampNeg) then (some (.inl (v29 + 1, z30))) else (pu_g ((8 + (3 * v29)) + 0) 98 (let z39 := msa z30 14 ((8 + (3 * v29)) + 0) (-1); some (.inl (v29 + 1, z39))))))
def fX6_rivers_L140 (v41 : Int32) (z42 : MS) : Option ((Int32 × MS) ⊕ (MS)) :=
  if (98 : Int32) ≤ v41 then (some (.inr (z42))) else (pu_g v41 98 (pu_g v41 98 (let z51 := msa z42 1 v41 (ma z42 14 v41.toNatClampNeg); some (.inl (v41 + 1, z51)))))
def fX6_rivers (z : MS) : Option (Int32 × MS) :=
  let z1 := msi z 7 (mi z 5); let z2 := msi z1 5 0; let z3 := msi z2 8 0; let z4 := msi z3 12 0; let z5 := msi z4 13 (-1); pu_b1 (pu_it (fun q => fX6_rivers_L30 q.1 q.2) pu_F ((0 : Int32), z5)) fun z16 => pu_b1 (fX6_advance z16) fun z17 => pu_b1 (pu_it (fun q => fX6_rivers_L53 q) pu_F (z17)) fun z28 => if (fX6_good z28) = 0 then (some (((-4) : Int32), z28)) else (pu_b1 (pu_it (fun q => fX6_rivers_L86 q.1 q.2) pu_F ((0 : Int32), z28)) fun z40 => pu_b1 (pu_it (fun q => fX6_rivers_L140 q.1 q.2) pu_F ((0 : Int32), z40)) fun z52 => some (ma z52 1 (7 : Int32).toNatClampNeg, z52))
theorem cd_X6_rivers : yX6_rivers.cls = RX6 ∧ yX6_rivers.cls ≠ "java/lang/invoke/MethodHandle" ∧ yX6_rivers.cls ≠ "java/lang/invoke/VarHandle" ∧ (parseMethodDescriptor yX6_rivers.desc).map (fun d => d.parameters.length) = some 0 := by decide +kernel
def fX6_isReach (z : MS) (a1 : Int64) : Int32 :=
  vp_nar .boolean (fX6_in a1 (0 : Int64) (((ma z 1 (3 : Int32).toNatClampNeg) - 1 : Int32).toInt64))
theorem cd_X6_isReach : yX6_isReach.cls = RX6 ∧ yX6_isReach.cls ≠ "java/lang/invoke/MethodHandle" ∧ yX6_isReach.cls ≠ "java/lang/invoke/VarHandle" ∧ (parseMethodDescriptor yX6_isReach.desc).map (fun d => d.parameters.length) = some 1 := by decide +kernel
def fX6_of (z : MS) (a1 : Int32) (a2 : Int32) : Option (Int32) :=
  pu_g ((8 + (3 * a1)) + a2) 98 (some (ma z 1 ((8 + (3 * a1)) + a2 : Int32).toNatClampNeg))
theorem cd_X6_of : yX6_of.cls = RX6 ∧ yX6_of.cls ≠ "java/lang/invoke/MethodHandle" ∧ yX6_of.cls ≠ "java/lang/invoke/VarHandle" ∧ (parseMethodDescriptor yX6_of.desc).map (fun d => d.parameters.length) = some 2 := by decide +kernel
def fX6_reach (z : MS) (a1 : Int32) (a2 : Int32) : Option (Int32) :=
  if (fX6_isReach z a1.toInt64) = 0 then (some ((-2) : Int32)) else (if (fX6_in a2.toInt64 (0 : Int64) (2 : Int64)) = 0 then (some ((-2) : Int32)) else (pu_b1 (fX6_of z a1 a2) fun v1 => some v1))
theorem cd_X6_reach : yX6_reach.cls = RX6 ∧ yX6_reach.cls ≠ "java/lang/invoke/MethodHandle" ∧ yX6_reach.cls ≠ "java/lang/invoke/VarHandle" ∧ (parseMethodDescriptor yX6_reach.desc).map (fun d => d.parameters.length) = some 2 := by decide +kernel
def fX6_rain (z : MS) (a1 : Int32) (a2 : Int32) : Option (Int32) :=
  if (fX6_in a1.toInt64 (0 : Int64) (((ma z 1 (5 : Int32).toNatClampNeg) - 1 : Int32).toInt64)) = 0 then (some ((-2) : Int32)) else (if (fX6_in a2.toInt64 (0 : Int64) (1 : Int64)) = 0 then (some ((-2) : Int32)) else (pu_g ((58 + (2 * a1)) + a2) 98 (some (ma z 1 ((58 + (2 * a1)) + a2 : Int32).toNatClampNeg))))
theorem cd_X6_rain : yX6_rain.cls = RX6 ∧ yX6_rain.cls ≠ "java/lang/invoke/MethodHandle" ∧ yX6_rain.cls ≠ "java/lang/invoke/VarHandle" ∧ (parseMethodDescriptor yX6_rain.desc).map (fun d => d.parameters.length) = some 2 := by decide +kernel
def fX6_isJoin (z : MS) (a1 : Int32) : Int32 :=
  vp_nar .boolean (fX6_in a1.toInt64 (0 : Int64) (((ma z 1 (4 : Int32).toNatClampNeg) - 1 : Int32).toInt64))
theorem cd_X6_isJoin : yX6_isJoin.cls = RX6 ∧ yX6_isJoin.cls ≠ "java/lang/invoke/MethodHandle" ∧ yX6_isJoin.cls ≠ "java/lang/invoke/VarHandle" ∧ (parseMethodDescriptor yX6_isJoin.desc).map (fun d => d.parameters.length) = some 1 := by decide +kernel
def fX6_ofJoin (z : MS) (a1 : Int32) (a2 : Int32) : Option (Int32) :=
  pu_g ((38 + (4 * a1)) + a2) 98 (some (ma z 1 ((38 + (4 * a1)) + a2 : Int32).toNatClampNeg))
theorem cd_X6_ofJoin : yX6_ofJoin.cls = RX6 ∧ yX6_ofJoin.cls ≠ "java/lang/invoke/MethodHandle" ∧ yX6_ofJoin.cls ≠ "java/lang/invoke/VarHandle" ∧ (parseMethodDescriptor yX6_ofJoin.desc).map (fun d => d.parameters.length) = some 2 := by decide +kernel
def fX6_join (z : MS) (a1 : Int32) (a2 : Int32) : Option (Int32) :=
  if (fX6_isJoin z a1) = 0 then (some ((-2) : Int32)) else (if (fX6_in a2.toInt64 (0 : Int64) (3 : Int64)) = 0 then (some ((-2) : Int32)) else (pu_b1 (fX6_ofJoin z a1 a2) fun v1 => some v1))
theorem cd_X6_join : yX6_join.cls = RX6 ∧ yX6_join.cls ≠ "java/lang/invoke/MethodHandle" ∧ yX6_join.cls ≠ "java/lang/invoke/VarHandle" ∧ (parseMethodDescriptor yX6_join.desc).map (fun d => d.parameters.length) = some 2 := by decide +kernel
def fX6_layLevels_L57 (p17 : Int32) (v18 : Int32) (z19 : MS) : Option ((Int32 × MS) ⊕ (MS)) :=
  if (ma z19 1 (3 : Int32).toNatClampNeg) ≤ v18 then (some (.inr (z19))) else (pu_g p17 61 (pu_g p17 61 (pu_b1 (fX6_of z19 v18 (2 : Int32)) fun v28 => if v28 ≤ (ma z19 16 p17.toNatClampNeg) then (pu_g p17 61 (let z31 := msa z19 17 p17 ((ma z19 17 p17.toNatClampNeg) ||| 0); some (.inl (v18 + 1, z31)))) else (pu_g p17 61 (let z33 := msa z19 17 p17 ((ma z19 17 p17.toNatClampNeg) ||| ((1 : Int32) <<< (v18 &&& 31))); some (.inl (v18 + 1, z33)))))))
def fX6_layLevels_L2 (v1 : Int32) (z2 : MS) : Option ((Int32 × MS) ⊕ (MS)) :=
  if (60 : Int32) < v1 then (some (.inr (z2))) else (pu_b1 (if v1 = 0 then (some (ma z2 1 (0 : Int32).toNatClampNeg)) else (pu_g (v1 - 1) 61 (some (pu_max (0 : Int32) ((ma z2 16 (v1 - 1 : Int32).toNatClampNeg) - 1)))) : Option (Int32)) fun v9 => pu_g v1 61 (pu_g v1 61 (let z14 := msa z2 16 v1 (v9 + (ma z2 15 v1.toNatClampNeg)); pu_g v1 61 (let z16 := msa z14 17 v1 0; pu_b1 (pu_it (fun q => fX6_layLevels_L57 v1 q.1 q.2) pu_F ((0 : Int32), z16)) fun z34 => some (.inl (v1 + 1, z34))))))
def fX6_layLevels (z : MS) : Option (MS) :=
  pu_b1 (pu_it (fun q => fX6_layLevels_L2 q.1 q.2) pu_F ((0 : Int32), z)) fun z36 => some z36
theorem cd_X6_layLevels : yX6_layLevels.cls = RX6 ∧ yX6_layLevels.cls ≠ "java/lang/invoke/MethodHandle" ∧ yX6_layLevels.cls ≠ "java/lang/invoke/VarHandle" ∧ (parseMethodDescriptor yX6_layLevels.desc).map (fun d => d.parameters.length) = some 0 := by decide +kernel
def fX6_asItIs_L12 (v3 : Int32) (z4 : MS) : Option ((Int32 × MS) ⊕ (MS)) :=
  if (60 : Int32) < v3 then (some (.inr (z4))) else (pu_g v3 61 (let z12 := msa z4 15 v3 0; some (.inl (v3 + 1, z12))))
def fX6_asItIs_L33 (v14 : Int32) (z15 : MS) : Option ((Int32 × MS) ⊕ (MS)) :=
  if (ma z15 1 (5 : Int32).toNatClampNeg) ≤ v14 then (some (.inr (z15))) else (pu_g ((58 + (2 * v14)) + 1) 98 (pu_g (ma z15 1 ((58 + (2 * v14)) + 1 : Int32).toNatClampNeg) 61 (pu_g (58 + (2 * v14)) 98 (pu_g (ma z15 1 ((58 + (2 * v14)) + 1 : Int32).toNatClampNeg) 61 (let z26 := msa z15 15 (ma z15 1 ((58 + (2 * v14)) + 1 : Int32).toNatClampNeg) ((ma z15 15 (ma z15 1 ((58 + (2 * v14)) + 1 : Int32).toNatClampNeg : Int32).toNatClampNeg) + (ma z15 1 (58 + (2 * v14) : Int32).toNatClampNeg)); some (.inl (v14 + 1, z26)))))))
def fX6_asItIs_L83 (v28 : Int32) (z29 : MS) : Option ((Int32 × MS) ⊕ (MS)) :=
  if (ma z29 1 (4 : Int32).toNatClampNeg) ≤ v28 then (some (.inr (z29))) else (pu_b1 (fX6_ofJoin z29 v28 (2 : Int32)) fun v36 => pu_g v28 5 (let z39 := msa z29 18 v28 v36; pu_b1 (fX6_ofJoin z39 v28 (3 : Int32)) fun v40 => pu_g v28 5 (let z43 := msa z39 19 v28 v40; some (.inl (v28 + 1, z43)))))
def fX6_asItIs_L125 (v45 : Int32) (z46 : MS) : Option ((Int32 × MS) ⊕ (MS)) :=
  if (ma z46 1 (6 : Int32).toNatClampNeg) ≤ v45 then (some (.inr (z46))) else (pu_g (68 + v45) 98 (pu_l1 (ma z46 1 (68 + v45 : Int32).toNatClampNeg : Int32) fun v54 => if v54 < 100 then (if (v54 - v54 / 2 * 2) = 1 then (let z56 := msi z46 20 ((mi z46 20) ||| ((1 : Int32) <<< ((v54 / 2 : Int32) &&& 31))); some (.inl (v45 + 1, z56))) else (let z55 := msi z46 20 ((mi z46 20) &&& (((1 : Int32) <<< ((v54 / 2 : Int32) &&& 31)) ^^^ (-1))); some (.inl (v45 + 1, z55)))) else (pu_g ((v54 / 100) - 1) 61 (pu_g ((v54 / 100) - 1) 61 (let z59 := msa z46 15 ((v54 / 100) - 1) ((ma z46 15 ((v54 / 100) - 1 : Int32).toNatClampNeg) + (v54 - v54 / 100 * 100)); some (.inl (v45 + 1, z59)))))))
def fX6_asItIs (z : MS) : Option (MS) :=
  let z1 := msi z 20 0; let z2 := msi z1 21 0; pu_b1 (pu_it (fun q => fX6_asItIs_L12 q.1 q.2) pu_F ((0 : Int32), z2)) fun z13 => pu_b1 (pu_it (fun q => fX6_asItIs_L33 q.1 q.2) pu_F ((0 : Int32), z13)) fun z27 => pu_b1 (pu_it (fun q => fX6_asItIs_L83 q.1 q.2) pu_F ((0 : Int32), z27)) fun z44 => pu_b1 (pu_it (fun q => fX6_asItIs_L125 q.1 q.2) pu_F ((0 : Int32), z44)) fun z60 => pu_b1 (fX6_layLevels z60) fun z61 => some z61
theorem cd_X6_asItIs : yX6_asItIs.cls = RX6 ∧ yX6_asItIs.cls ≠ "java/lang/invoke/MethodHandle" ∧ yX6_asItIs.cls ≠ "java/lang/invoke/VarHandle" ∧ (parseMethodDescriptor yX6_asItIs.desc).map (fun d => d.parameters.length) = some 0 := by decide +kernel
def fX6_isRivers (z : MS) : Int32 :=
  if (ma z 1 (7 : Int32).toNatClampNeg) ≤ 0 then ((0 : Int32)) else ((1 : Int32))
theorem cd_X6_isRivers : yX6_isRivers.cls = RX6 ∧ yX6_isRivers.cls ≠ "java/lang/invoke/MethodHandle" ∧ yX6_isRivers.cls ≠ "java/lang/invoke/VarHandle" ∧ (parseMethodDescriptor yX6_isRivers.desc).map (fun d => d.parameters.length) = some 0 := by decide +kernel
def fX6_asksRivers (z : MS) : Option (Int32 × MS) :=
  pu_b1 (fX6_asItIs z) fun z1 => some (vp_nar .boolean (fX6_isRivers z1), z1)
theorem cd_X6_asksRivers : yX6_asksRivers.cls = RX6 ∧ yX6_asksRivers.cls ≠ "java/lang/invoke/MethodHandle" ∧ yX6_asksRivers.cls ≠ "java/lang/invoke/VarHandle" ∧ (parseMethodDescriptor yX6_asksRivers.desc).map (fun d => d.parameters.length) = some 0 := by decide +kernel
def fX6_isStep (a1 : Int64) : Int32 :=
  vp_nar .boolean (fX6_in a1 (0 : Int64) (60 : Int64))
theorem cd_X6_isStep : yX6_isStep.cls ≠ "java/lang/invoke/MethodHandle" ∧ yX6_isStep.cls ≠ "java/lang/invoke/VarHandle" ∧ (parseMethodDescriptor yX6_isStep.desc).map (fun d => d.parameters.length) = some 1 := by decide +kernel
def fX6_level (z : MS) (a1 : Int32) : Option (Int32 × MS) :=
  pu_b2 (fX6_asksRivers z) fun v1 z2 => if v1 = 0 then (some (((-2) : Int32), z2)) else (if (fX6_isStep a1.toInt64) = 0 then (some (((-2) : Int32), z2)) else (pu_g a1 61 (some (ma z2 16 a1.toNatClampNeg, z2))))
theorem cd_X6_level : yX6_level.cls = RX6 ∧ yX6_level.cls ≠ "java/lang/invoke/MethodHandle" ∧ yX6_level.cls ≠ "java/lang/invoke/VarHandle" ∧ (parseMethodDescriptor yX6_level.desc).map (fun d => d.parameters.length) = some 1 := by decide +kernel
def fX6_stands (z : MS) (a1 : Int32) : Option (Int32 × MS) :=
  pu_b2 (fX6_asksRivers z) fun v1 z2 => if v1 = 0 then (some (((-2) : Int32), z2)) else (if (fX6_isStep a1.toInt64) = 0 then (some (((-2) : Int32), z2)) else (pu_g a1 61 (some (ma z2 17 a1.toNatClampNeg, z2))))
theorem cd_X6_stands : yX6_stands.cls = RX6 ∧ yX6_stands.cls ≠ "java/lang/invoke/MethodHandle" ∧ yX6_stands.cls ≠ "java/lang/invoke/VarHandle" ∧ (parseMethodDescriptor yX6_stands.desc).map (fun d => d.parameters.length) = some 1 := by decide +kernel
def fX6_asksReach (z : MS) (a1 : Int32) : Option (Int32 × MS) :=
  pu_b1 (fX6_asItIs z) fun z1 => some (vp_nar .boolean (fX6_isReach z1 a1.toInt64), z1)
theorem cd_X6_asksReach : yX6_asksReach.cls = RX6 ∧ yX6_asksReach.cls ≠ "java/lang/invoke/MethodHandle" ∧ yX6_asksReach.cls ≠ "java/lang/invoke/VarHandle" ∧ (parseMethodDescriptor yX6_asksReach.desc).map (fun d => d.parameters.length) = some 1 := by decide +kernel
def fX6_bit (a1 : Int32) (a2 : Int32) : Int32 :=
  (a1 >>> (a2 &&& 31)) &&& 1
theorem cd_X6_bit : yX6_bit.cls ≠ "java/lang/invoke/MethodHandle" ∧ yX6_bit.cls ≠ "java/lang/invoke/VarHandle" ∧ (parseMethodDescriptor yX6_bit.desc).map (fun d => d.parameters.length) = some 2 := by decide +kernel
def fX6_dry_L13 (zc5 : MS) (p4 : Int32) (v6 : Int32) : Option ((Int32) ⊕ ((Unit) ⊕ (Int32 × MS))) :=
  if (60 : Int32) < v6 then (some (.inr (.inl ()))) else (pu_g v6 61 (if (fX6_bit (ma zc5 17 v6.toNatClampNeg) p4) = 1 then (some (.inr (.inr (v6, zc5)))) else (some (.inl (v6 + 1)))))
def fX6_dry (z : MS) (a1 : Int32) : Option (Int32 × MS) :=
  pu_b2 (fX6_asksReach z a1) fun v1 z2 => if v1 = 0 then (some (((-2) : Int32), z2)) else (pu_s (pu_it (fun q => fX6_dry_L13 z2 a1 q) pu_F ((0 : Int32))) fun ex => some (((-1) : Int32), z2))
theorem cd_X6_dry : yX6_dry.cls = RX6 ∧ yX6_dry.cls ≠ "java/lang/invoke/MethodHandle" ∧ yX6_dry.cls ≠ "java/lang/invoke/VarHandle" ∧ (parseMethodDescriptor yX6_dry.desc).map (fun d => d.parameters.length) = some 1 := by decide +kernel
def fX6_drought_L18 (zc5 : MS) (p4 : Int32) (v6 : Int32) (v7 : Int32) (v8 : Int32) : Option ((Int32 × Int32 × Int32) ⊕ (Int32)) :=
  if (60 : Int32) < v8 then (some (.inr (v6))) else (pu_g v8 61 (pu_l1 (if (fX6_bit (ma zc5 17 v8.toNatClampNeg) p4) = 1 then (v7 + 1) else ((0 : Int32)) : Int32) fun v16 => pu_l1 (pu_max v6 v16 : Int32) fun v19 => some (.inl (v19, v16, v8 + 1))))
def fX6_drought (z : MS) (a1 : Int32) : Option (Int32 × MS) :=
  pu_b2 (fX6_asksReach z a1) fun v1 z2 => if v1 = 0 then (some (((-2) : Int32), z2)) else (pu_b1 (pu_it (fun q => fX6_drought_L18 z2 a1 q.1 q.2.1 q.2.2) pu_F ((0 : Int32), (0 : Int32), (0 : Int32))) fun v20 => some (v20, z2))
theorem cd_X6_drought : yX6_drought.cls = RX6 ∧ yX6_drought.cls ≠ "java/lang/invoke/MethodHandle" ∧ yX6_drought.cls ≠ "java/lang/invoke/VarHandle" ∧ (parseMethodDescriptor yX6_drought.desc).map (fun d => d.parameters.length) = some 1 := by decide +kernel
def fX6_flows (z : MS) (a1 : Int32) : Option (Int32 × MS) :=
  pu_b2 (fX6_asksRivers z) fun v1 z2 => if v1 = 0 then (some (((-2) : Int32), z2)) else (if (fX6_isStep a1.toInt64) = 0 then (some (((-2) : Int32), z2)) else (pu_g a1 61 (some ((((1 : Int32) <<< ((ma z2 1 (3 : Int32).toNatClampNeg : Int32) &&& 31)) - 1) &&& ((ma z2 17 a1.toNatClampNeg) ^^^ (-1)), z2))))
theorem cd_X6_flows : yX6_flows.cls = RX6 ∧ yX6_flows.cls ≠ "java/lang/invoke/MethodHandle" ∧ yX6_flows.cls ≠ "java/lang/invoke/VarHandle" ∧ (parseMethodDescriptor yX6_flows.desc).map (fun d => d.parameters.length) = some 1 := by decide +kernel
def fX6_idle_L15 (zc5 : MS) (p4 : Int32) (v6 : Int32) (v7 : Int32) : Option ((Int32 × Int32) ⊕ (Int32)) :=
  if (60 : Int32) < v7 then (some (.inr (v6))) else (pu_g v7 61 (pu_l1 (v6 + (fX6_bit (ma zc5 17 v7.toNatClampNeg) p4) : Int32) fun v15 => some (.inl (v15, v7 + 1))))
def fX6_idle (z : MS) (a1 : Int32) : Option (Int32 × MS) :=
  pu_b2 (fX6_asksReach z a1) fun v1 z2 => if v1 = 0 then (some (((-2) : Int32), z2)) else (pu_b1 (pu_it (fun q => fX6_idle_L15 z2 a1 q.1 q.2) pu_F ((0 : Int32), (0 : Int32))) fun v16 => some (v16, z2))
theorem cd_X6_idle : yX6_idle.cls = RX6 ∧ yX6_idle.cls ≠ "java/lang/invoke/MethodHandle" ∧ yX6_idle.cls ≠ "java/lang/invoke/VarHandle" ∧ (parseMethodDescriptor yX6_idle.desc).map (fun d => d.parameters.length) = some 1 := by decide +kernel
def fX6_rained_L22 (zc5 : MS) (p4 : Int32) (v6 : Int32) (v7 : Int32) : Option ((Int32 × Int32) ⊕ (Int32)) :=
  if p4 < v7 then (some (.inr (v6))) else (pu_g v7 61 (pu_l1 (v6 + (ma zc5 15 v7.toNatClampNeg) : Int32) fun v15 => some (.inl (v15, v7 + 1))))
def fX6_rained (z : MS) (a1 : Int32) : Option (Int32 × MS) :=
  pu_b2 (fX6_asksRivers z) fun v1 z2 => if v1 = 0 then (some (((-2) : Int32), z2)) else (if (fX6_isStep a1.toInt64) = 0 then (some (((-2) : Int32), z2)) else (pu_b1 (pu_it (fun q => fX6_rained_L22 z2 a1 q.1 q.2) pu_F ((0 : Int32), (0 : Int32))) fun v16 => some (v16, z2)))
theorem cd_X6_rained : yX6_rained.cls = RX6 ∧ yX6_rained.cls ≠ "java/lang/invoke/MethodHandle" ∧ yX6_rained.cls ≠ "java/lang/invoke/VarHandle" ∧ (parseMethodDescriptor yX6_rained.desc).map (fun d => d.parameters.length) = some 1 := by decide +kernel
def fX6_lowestOf_L4 (zc1 : MS) (v2 : Int32) (v3 : Int32) : Option ((Int32 × Int32) ⊕ (Int32)) :=
  if (60 : Int32) < v3 then (some (.inr (v2))) else (pu_g v3 61 (pu_g v2 61 (if (ma zc1 16 v2.toNatClampNeg) ≤ (ma zc1 16 v3.toNatClampNeg) then (some (.inl (v2, v3 + 1))) else (some (.inl (v3, v3 + 1))))))
def fX6_lowestOf (z : MS) : Option (Int32) :=
  pu_b1 (pu_it (fun q => fX6_lowestOf_L4 z q.1 q.2) pu_F ((0 : Int32), (1 : Int32))) fun v12 => some v12
theorem cd_X6_lowestOf : yX6_lowestOf.cls = RX6 ∧ yX6_lowestOf.cls ≠ "java/lang/invoke/MethodHandle" ∧ yX6_lowestOf.cls ≠ "java/lang/invoke/VarHandle" ∧ (parseMethodDescriptor yX6_lowestOf.desc).map (fun d => d.parameters.length) = some 0 := by decide +kernel
def fX6_lowest (z : MS) : Option (Int32 × MS) :=
  pu_b2 (fX6_asksRivers z) fun v1 z2 => if v1 = 0 then (some (((-2) : Int32), z2)) else (pu_b1 (fX6_lowestOf z2) fun v4 => some (v4, z2))
theorem cd_X6_lowest : yX6_lowest.cls = RX6 ∧ yX6_lowest.cls ≠ "java/lang/invoke/MethodHandle" ∧ yX6_lowest.cls ≠ "java/lang/invoke/VarHandle" ∧ (parseMethodDescriptor yX6_lowest.desc).map (fun d => d.parameters.length) = some 0 := by decide +kernel
def fX6_deeper (z : MS) : Option (Int32 × MS) :=
  pu_b2 (fX6_asksRivers z) fun v1 z2 => if v1 = 0 then (some (((-2) : Int32), z2)) else (pu_b1 (fX6_lowestOf z2) fun v4 => pu_g v4 61 (some (pu_min (20 : Int32) (ma z2 16 v4.toNatClampNeg), z2)))
theorem cd_X6_deeper : yX6_deeper.cls = RX6 ∧ yX6_deeper.cls ≠ "java/lang/invoke/MethodHandle" ∧ yX6_deeper.cls ≠ "java/lang/invoke/VarHandle" ∧ (parseMethodDescriptor yX6_deeper.desc).map (fun d => d.parameters.length) = some 0 := by decide +kernel
def fX6_mouths_L14 (zc1 : MS) (v2 : Int32) (v3 : Int32) : Option ((Int32 × Int32) ⊕ (Int32)) :=
  if (ma zc1 1 (3 : Int32).toNatClampNeg) ≤ v3 then (some (.inr (v2))) else (pu_b1 (fX6_of zc1 v3 (0 : Int32)) fun v10 => if v10 = (-1) then (pu_l1 (v2 ||| ((1 : Int32) <<< (v3 &&& 31)) : Int32) fun v13 => some (.inl (v13, v3 + 1))) else (pu_l1 (v2 ||| 0 : Int32) fun v12 => some (.inl (v12, v3 + 1))))
def fX6_mouths (z : MS) : Option (Int32) :=
  if (fX6_isRivers z) = 0 then (some ((-2) : Int32)) else (pu_b1 (pu_it (fun q => fX6_mouths_L14 z q.1 q.2) pu_F ((0 : Int32), (0 : Int32))) fun v14 => some v14)
theorem cd_X6_mouths : yX6_mouths.cls = RX6 ∧ yX6_mouths.cls ≠ "java/lang/invoke/MethodHandle" ∧ yX6_mouths.cls ≠ "java/lang/invoke/VarHandle" ∧ (parseMethodDescriptor yX6_mouths.desc).map (fun d => d.parameters.length) = some 0 := by decide +kernel
def fX6_springs_L14 (zc1 : MS) (v2 : Int32) (v3 : Int32) : Option ((Int32 × Int32) ⊕ (Int32)) :=
  if (ma zc1 1 (3 : Int32).toNatClampNeg) ≤ v3 then (some (.inr (v2))) else (pu_b1 (fX6_of zc1 v3 (0 : Int32)) fun v10 => if v10 = (-1) then (pu_l1 (v2 ||| 0 : Int32) fun v15 => some (.inl (v15, v3 + 1))) else (pu_b1 (fX6_of zc1 v3 (0 : Int32)) fun v12 => pu_l1 (v2 ||| ((1 : Int32) <<< (v12 &&& 31)) : Int32) fun v14 => some (.inl (v14, v3 + 1))))
def fX6_springs_L57 (zc17 : MS) (v18 : Int32) (v19 : Int32) : Option ((Int32 × Int32) ⊕ (Int32)) :=
  if (ma zc17 1 (4 : Int32).toNatClampNeg) ≤ v19 then (some (.inr (v18))) else (pu_b1 (fX6_ofJoin zc17 v19 (1 : Int32)) fun v26 => pu_l1 (v18 ||| ((1 : Int32) <<< (v26 &&& 31)) : Int32) fun v28 => some (.inl (v28, v19 + 1)))
def fX6_springs (z : MS) : Option (Int32) :=
  if (fX6_isRivers z) = 0 then (some ((-2) : Int32)) else (pu_b1 (pu_it (fun q => fX6_springs_L14 z q.1 q.2) pu_F ((0 : Int32), (0 : Int32))) fun v16 => pu_b1 (pu_it (fun q => fX6_springs_L57 z q.1 q.2) pu_F (v16, (0 : Int32))) fun v29 => some ((((1 : Int32) <<< ((ma z 1 (3 : Int32).toNatClampNeg : Int32) &&& 31)) - 1) &&& (v29 ^^^ (-1))))
theorem cd_X6_springs : yX6_springs.cls = RX6 ∧ yX6_springs.cls ≠ "java/lang/invoke/MethodHandle" ∧ yX6_springs.cls ≠ "java/lang/invoke/VarHandle" ∧ (parseMethodDescriptor yX6_springs.desc).map (fun d => d.parameters.length) = some 0 := by decide +kernel
def fX6_depth_L16 (zc1 : MS) (v2 : Int32) (v3 : Int32) : Option ((Int32 × Int32) ⊕ ((Unit) ⊕ (Int32))) :=
  if (10 : Int32) < v3 then (some (.inr (.inl ()))) else (pu_b1 (fX6_of zc1 v2 (0 : Int32)) fun v10 => if v10 = (-1) then (some (.inr (.inr v3))) else (some (.inl (v10, v3 + 1))))
def fX6_depth (z : MS) (a1 : Int32) : Option (Int32) :=
  if (fX6_isReach z a1.toInt64) = 0 then (some ((-2) : Int32)) else (pu_s (pu_it (fun q => fX6_depth_L16 z q.1 q.2) pu_F (a1, (1 : Int32))) fun ex => some ((-1) : Int32))
theorem cd_X6_depth : yX6_depth.cls = RX6 ∧ yX6_depth.cls ≠ "java/lang/invoke/MethodHandle" ∧ yX6_depth.cls ≠ "java/lang/invoke/VarHandle" ∧ (parseMethodDescriptor yX6_depth.desc).map (fun d => d.parameters.length) = some 1 := by decide +kernel
def fX6_rings_L34 (zc14 : MS) (p12 : Int32) (p13 : Int32) (v15 : Int32) (v16 : Int32) : Option ((Int32 × Int32) ⊕ (Int32)) :=
  if (10 : Int32) ≤ v16 then (some (.inr (v15))) else (if v15 = (-1) then (some (.inr (v15))) else (if v15 = p13 then (some (.inr (v15))) else (pu_b1 (fX6_of zc14 v15 (0 : Int32)) fun v23 => some (.inl (v23, v16 + 1)))))
def fX6_rings_L14 (zc1 : MS) (v2 : Int32) (v3 : Int32) : Option ((Int32 × Int32) ⊕ (Int32)) :=
  if (ma zc1 1 (3 : Int32).toNatClampNeg) ≤ v3 then (some (.inr (v2))) else (pu_b1 (fX6_of zc1 v3 (0 : Int32)) fun v10 => pu_b1 (pu_it (fun q => fX6_rings_L34 zc1 v2 v3 q.1 q.2) pu_F (v10, (1 : Int32))) fun v25 => if v25 = v3 then (pu_l1 (v2 ||| ((1 : Int32) <<< (v3 &&& 31)) : Int32) fun v27 => some (.inl (v27, v3 + 1))) else (pu_l1 (v2 ||| 0 : Int32) fun v26 => some (.inl (v26, v3 + 1))))
def fX6_rings (z : MS) : Option (Int32) :=
  if (fX6_isRivers z) = 0 then (some ((-2) : Int32)) else (pu_b1 (pu_it (fun q => fX6_rings_L14 z q.1 q.2) pu_F ((0 : Int32), (0 : Int32))) fun v28 => some v28)
theorem cd_X6_rings : yX6_rings.cls = RX6 ∧ yX6_rings.cls ≠ "java/lang/invoke/MethodHandle" ∧ yX6_rings.cls ≠ "java/lang/invoke/VarHandle" ∧ (parseMethodDescriptor yX6_rings.desc).map (fun d => d.parameters.length) = some 0 := by decide +kernel
def fX6_goes (z : MS) (a1 : Int32) (a2 : Int32) : Option (Int32 × MS) :=
  pu_b1 (fX6_asItIs z) fun z1 => if (fX6_isJoin z1 a1) = 0 then (some (((-2) : Int32), z1)) else (if (fX6_isStep a2.toInt64) = 0 then (some (((-2) : Int32), z1)) else (if (fX6_bit (mi z1 20) a1) = 0 then (pu_g a1 5 (pu_z (ma z1 18 a1.toNatClampNeg) (pu_g a1 5 (if (a2 - a2 / (ma z1 18 a1.toNatClampNeg) * (ma z1 18 a1.toNatClampNeg)) = (ma z1 19 a1.toNatClampNeg) then (some ((1 : Int32), z1)) else (some ((0 : Int32), z1)))))) else (some ((0 : Int32), z1))))
theorem cd_X6_goes : yX6_goes.cls = RX6 ∧ yX6_goes.cls ≠ "java/lang/invoke/MethodHandle" ∧ yX6_goes.cls ≠ "java/lang/invoke/VarHandle" ∧ (parseMethodDescriptor yX6_goes.desc).map (fun d => d.parameters.length) = some 2 := by decide +kernel
def fX6_joinFrom_L2 (zc3 : MS) (p1 : Int32) (p2 : Int32) (v4 : Int32) : Option ((Int32) ⊕ ((Unit) ⊕ (Int32))) :=
  if (ma zc3 1 (4 : Int32).toNatClampNeg) ≤ v4 then (some (.inr (.inl ()))) else (pu_b1 (fX6_ofJoin zc3 v4 (0 : Int32)) fun v11 => if v11 = p1 then (if (fX6_bit (mi zc3 20) v4) = 0 then (pu_g v4 5 (pu_z (ma zc3 18 v4.toNatClampNeg) (pu_g v4 5 (if (p2 - p2 / (ma zc3 18 v4.toNatClampNeg) * (ma zc3 18 v4.toNatClampNeg)) = (ma zc3 19 v4.toNatClampNeg) then (some (.inr (.inr v4))) else (some (.inl (v4 + 1))))))) else (some (.inl (v4 + 1)))) else (some (.inl (v4 + 1))))
def fX6_joinFrom (z : MS) (a1 : Int32) (a2 : Int32) : Option (Int32) :=
  pu_s (pu_it (fun q => fX6_joinFrom_L2 z a1 a2 q) pu_F ((0 : Int32))) fun ex => some ((-1) : Int32)
theorem cd_X6_joinFrom : yX6_joinFrom.cls = RX6 ∧ yX6_joinFrom.cls ≠ "java/lang/invoke/MethodHandle" ∧ yX6_joinFrom.cls ≠ "java/lang/invoke/VarHandle" ∧ (parseMethodDescriptor yX6_joinFrom.desc).map (fun d => d.parameters.length) = some 2 := by decide +kernel
def fX6_goStick_L40 (p7 : Int32) (p8 : Int32) (v9 : Int32) (z10 : MS) : Option ((Int32 × MS) ⊕ (MS)) :=
  if (60 : Int32) < v9 then (some (.inr (z10))) else (pu_g v9 61 (let z18 := msa z10 23 v9 0; some (.inl (v9 + 1, z18))))
def fX6_goStick_L64 (p20 : Int32) (p21 : Int32) (v22 : Int32) (z23 : MS) : Option ((Int32 × MS) ⊕ (MS)) :=
  if p20 ≤ v22 then (some (.inr (z23))) else (pu_g v22 61 (let z31 := msa z23 22 v22 (-4); some (.inl (v22 + 1, z31))))
def fX6_goStick_L88 (v33 : Int32) (v34 : Int32) (v35 : Int32) (z36 : MS) : Option ((Int32 × Int32 × Int32 × MS) ⊕ ((MS) ⊕ (MS))) :=
  if (60 : Int32) < v35 then (some (.inr (.inl (z36)))) else (pu_g v35 61 (let z44 := msa z36 22 v35 v33; if v33 < 0 then (some (.inl (v33, v34, v35 + 1, z44))) else (pu_g v35 61 (if (fX6_bit (ma z44 17 v35.toNatClampNeg) v33) = 1 then (some (.inl (v33, v34, v35 + 1, z44))) else (pu_b1 (fX6_of z44 v33 (1 : Int32)) fun v46 => if v46 ≤ (v34 + 1) then (pu_b1 (fX6_joinFrom z44 v33 v35) fun v48 => pu_b1 (if v48 = (-1) then (pu_b1 (fX6_of z44 v33 (0 : Int32)) fun v66 => some v66) else (pu_b1 (fX6_ofJoin z44 v48 (1 : Int32)) fun v64 => some v64) : Option (Int32)) fun v50 => let z53 := msi z44 24 ((mi z44 24) + 1); pu_l1 (if v48 = (-1) then ((0 : Int32)) else ((1 : Int32)) : Int32) fun v54 => let z57 := msi z53 25 ((mi z53 25) + v54); pu_l1 (if v48 = (-1) then ((0 : Int32)) else ((1 : Int32) <<< (v48 &&& 31)) : Int32) fun v58 => let z61 := msi z57 26 ((mi z57 26) ||| v58); if v35 = 60 then (some (.inr (.inr z61))) else (pu_g (v35 + 1) 61 (let z63 := msa z61 23 (v35 + 1) 1; if v50 = (-1) then (some (.inl (v50, (0 : Int32), v35 + 1, z63))) else (if (fX6_bit (mi z63 21) v50) = 1 then (some (.inl (((-3) : Int32), (0 : Int32), v35 + 1, z63))) else (some (.inl (v50, (0 : Int32), v35 + 1, z63))))))) else (some (.inl (v33, v34 + 1, v35 + 1, z44))))))))
def fX6_goStick (z : MS) (a1 : Int32) (a2 : Int32) : Option (MS) :=
  pu_l1 (if (fX6_bit (mi z 21) a1) = 1 then (((-3) : Int32)) else a1 : Int32) fun v1 => let z4 := msi z 24 0; let z5 := msi z4 25 0; let z6 := msi z5 26 0; pu_b1 (pu_it (fun q => fX6_goStick_L40 a2 v1 q.1 q.2) pu_F ((0 : Int32), z6)) fun z19 => pu_b1 (pu_it (fun q => fX6_goStick_L64 a2 v1 q.1 q.2) pu_F ((0 : Int32), z19)) fun z32 => pu_s (pu_it (fun q => fX6_goStick_L88 q.1 q.2.1 q.2.2.1 q.2.2.2) pu_F (v1, (0 : Int32), a2, z32)) fun ex => pu_l1 ex fun z68 => some z68
theorem cd_X6_goStick : yX6_goStick.cls = RX6 ∧ yX6_goStick.cls ≠ "java/lang/invoke/MethodHandle" ∧ yX6_goStick.cls ≠ "java/lang/invoke/VarHandle" ∧ (parseMethodDescriptor yX6_goStick.desc).map (fun d => d.parameters.length) = some 2 := by decide +kernel
def fX6_putsIn (z : MS) (a1 : Int32) (a2 : Int32) : Option (Int32 × MS) :=
  pu_b2 (fX6_asksReach z a1) fun v1 z2 => if v1 = 0 then (some ((0 : Int32), z2)) else (if (fX6_isStep a2.toInt64) = 0 then (some ((0 : Int32), z2)) else (pu_b1 (fX6_goStick z2 a1 a2) fun z4 => some ((1 : Int32), z4)))
theorem cd_X6_putsIn : yX6_putsIn.cls = RX6 ∧ yX6_putsIn.cls ≠ "java/lang/invoke/MethodHandle" ∧ yX6_putsIn.cls ≠ "java/lang/invoke/VarHandle" ∧ (parseMethodDescriptor yX6_putsIn.desc).map (fun d => d.parameters.length) = some 2 := by decide +kernel
def fX6_where (z : MS) (a1 : Int32) (a2 : Int32) (a3 : Int32) : Option (Int32 × MS) :=
  pu_b2 (fX6_putsIn z a1 a2) fun v1 z2 => if v1 = 0 then (some (((-2) : Int32), z2)) else (if (fX6_in a3.toInt64 a2.toInt64 (60 : Int64)) = 0 then (some (((-2) : Int32), z2)) else (pu_g a3 61 (some (ma z2 22 a3.toNatClampNeg, z2))))
theorem cd_X6_where : yX6_where.cls = RX6 ∧ yX6_where.cls ≠ "java/lang/invoke/MethodHandle" ∧ yX6_where.cls ≠ "java/lang/invoke/VarHandle" ∧ (parseMethodDescriptor yX6_where.desc).map (fun d => d.parameters.length) = some 3 := by decide +kernel
def fX6_comesOf_L2 (zc2 : MS) (p1 : Int32) (v3 : Int32) : Option ((Int32) ⊕ ((Unit) ⊕ (Int32))) :=
  if (60 : Int32) < v3 then (some (.inr (.inl ()))) else (pu_g v3 61 (if (ma zc2 22 v3.toNatClampNeg) = p1 then (some (.inr (.inr v3))) else (some (.inl (v3 + 1)))))
def fX6_comesOf (z : MS) (a1 : Int32) (a2 : Int32) : Option (Int32) :=
  pu_s (pu_it (fun q => fX6_comesOf_L2 z a2 q) pu_F (a1)) fun ex => some ((-1) : Int32)
theorem cd_X6_comesOf : yX6_comesOf.cls = RX6 ∧ yX6_comesOf.cls ≠ "java/lang/invoke/MethodHandle" ∧ yX6_comesOf.cls ≠ "java/lang/invoke/VarHandle" ∧ (parseMethodDescriptor yX6_comesOf.desc).map (fun d => d.parameters.length) = some 2 := by decide +kernel
def fX6_sea (z : MS) (a1 : Int32) (a2 : Int32) : Option (Int32 × MS) :=
  pu_b2 (fX6_putsIn z a1 a2) fun v1 z2 => if v1 = 0 then (some (((-2) : Int32), z2)) else (pu_b1 (fX6_comesOf z2 a2 ((-1) : Int32)) fun v4 => some (v4, z2))
theorem cd_X6_sea : yX6_sea.cls = RX6 ∧ yX6_sea.cls ≠ "java/lang/invoke/MethodHandle" ∧ yX6_sea.cls ≠ "java/lang/invoke/VarHandle" ∧ (parseMethodDescriptor yX6_sea.desc).map (fun d => d.parameters.length) = some 2 := by decide +kernel
def fX6_comes (z : MS) (a1 : Int32) (a2 : Int32) (a3 : Int32) : Option (Int32 × MS) :=
  if (fX6_isReach z a3.toInt64) = 0 then (some (((-2) : Int32), z)) else (pu_b2 (fX6_putsIn z a1 a2) fun v1 z2 => if v1 = 0 then (some (((-2) : Int32), z2)) else (pu_b1 (fX6_comesOf z2 a2 a3) fun v4 => some (v4, z2)))
theorem cd_X6_comes : yX6_comes.cls = RX6 ∧ yX6_comes.cls ≠ "java/lang/invoke/MethodHandle" ∧ yX6_comes.cls ≠ "java/lang/invoke/VarHandle" ∧ (parseMethodDescriptor yX6_comes.desc).map (fun d => d.parameters.length) = some 3 := by decide +kernel
def fX6_way_L17 (zc4 : MS) (v5 : Int32) (v6 : Int32) : Option ((Int32 × Int32) ⊕ (Int32)) :=
  if (60 : Int32) < v6 then (some (.inr (v5))) else (pu_g v6 61 (if (0 : Int32) ≤ (ma zc4 22 v6.toNatClampNeg) then (pu_g v6 61 (pu_l1 (v5 ||| ((1 : Int32) <<< ((ma zc4 22 v6.toNatClampNeg : Int32) &&& 31)) : Int32) fun v15 => some (.inl (v15, v6 + 1)))) else (pu_l1 (v5 ||| 0 : Int32) fun v16 => some (.inl (v16, v6 + 1)))))
def fX6_way (z : MS) (a1 : Int32) (a2 : Int32) : Option (Int32 × MS) :=
  pu_b2 (fX6_putsIn z a1 a2) fun v1 z2 => if v1 = 0 then (some (((-2) : Int32), z2)) else (pu_b1 (pu_it (fun q => fX6_way_L17 z2 q.1 q.2) pu_F ((0 : Int32), a2)) fun v17 => some (v17, z2))
theorem cd_X6_way : yX6_way.cls = RX6 ∧ yX6_way.cls ≠ "java/lang/invoke/MethodHandle" ∧ yX6_way.cls ≠ "java/lang/invoke/VarHandle" ∧ (parseMethodDescriptor yX6_way.desc).map (fun d => d.parameters.length) = some 2 := by decide +kernel
def fX6_leaves (z : MS) (a1 : Int32) (a2 : Int32) : Option (Int32 × MS) :=
  pu_b2 (fX6_putsIn z a1 a2) fun v1 z2 => if v1 = 0 then (some (((-2) : Int32), z2)) else (some (mi z2 24, z2))
theorem cd_X6_leaves : yX6_leaves.cls = RX6 ∧ yX6_leaves.cls ≠ "java/lang/invoke/MethodHandle" ∧ yX6_leaves.cls ≠ "java/lang/invoke/VarHandle" ∧ (parseMethodDescriptor yX6_leaves.desc).map (fun d => d.parameters.length) = some 2 := by decide +kernel
def fX6_waits_L17 (zc4 : MS) (v5 : Int32) (v6 : Int32) : Option ((Int32 × Int32) ⊕ (Int32)) :=
  if (60 : Int32) < v6 then (some (.inr (v5))) else (pu_g v6 61 (if (ma zc4 22 v6.toNatClampNeg) < 0 then (pu_l1 (v5 + 0 : Int32) fun v14 => some (.inl (v14, v6 + 1))) else (pu_g v6 61 (pu_g v6 61 (if (fX6_bit (ma zc4 17 v6.toNatClampNeg) (ma zc4 22 v6.toNatClampNeg)) = 1 then (pu_l1 (v5 + 1 : Int32) fun v18 => some (.inl (v18, v6 + 1))) else (pu_l1 (v5 + 0 : Int32) fun v17 => some (.inl (v17, v6 + 1))))))))
def fX6_waits (z : MS) (a1 : Int32) (a2 : Int32) : Option (Int32 × MS) :=
  pu_b2 (fX6_putsIn z a1 a2) fun v1 z2 => if v1 = 0 then (some (((-2) : Int32), z2)) else (pu_b1 (pu_it (fun q => fX6_waits_L17 z2 q.1 q.2) pu_F ((0 : Int32), a2)) fun v19 => some (v19, z2))
theorem cd_X6_waits : yX6_waits.cls = RX6 ∧ yX6_waits.cls ≠ "java/lang/invoke/MethodHandle" ∧ yX6_waits.cls ≠ "java/lang/invoke/VarHandle" ∧ (parseMethodDescriptor yX6_waits.desc).map (fun d => d.parameters.length) = some 2 := by decide +kernel
def fX6_jumps (z : MS) (a1 : Int32) (a2 : Int32) : Option (Int32 × MS) :=
  pu_b2 (fX6_putsIn z a1 a2) fun v1 z2 => if v1 = 0 then (some (((-2) : Int32), z2)) else (some (mi z2 25, z2))
theorem cd_X6_jumps : yX6_jumps.cls = RX6 ∧ yX6_jumps.cls ≠ "java/lang/invoke/MethodHandle" ∧ yX6_jumps.cls ≠ "java/lang/invoke/VarHandle" ∧ (parseMethodDescriptor yX6_jumps.desc).map (fun d => d.parameters.length) = some 2 := by decide +kernel
def fX6_used (z : MS) (a1 : Int32) (a2 : Int32) : Option (Int32 × MS) :=
  pu_b2 (fX6_putsIn z a1 a2) fun v1 z2 => if v1 = 0 then (some (((-2) : Int32), z2)) else (some (mi z2 26, z2))
theorem cd_X6_used : yX6_used.cls = RX6 ∧ yX6_used.cls ≠ "java/lang/invoke/MethodHandle" ∧ yX6_used.cls ≠ "java/lang/invoke/VarHandle" ∧ (parseMethodDescriptor yX6_used.desc).map (fun d => d.parameters.length) = some 2 := by decide +kernel
def fX6_together_L26 (p5 : Int32) (p6 : Int32) (v7 : Int32) (v8 : Int32) (z9 : MS) : Option ((Int32 × Int32 × MS) ⊕ (Int32 × MS)) :=
  if (ma z9 1 (3 : Int32).toNatClampNeg) ≤ v8 then (some (.inr (v7, z9))) else (pu_b1 (fX6_goStick z9 v8 p5) fun z16 => if (ma z16 22 (60 : Int32).toNatClampNeg) = p6 then (pu_l1 (v7 ||| ((1 : Int32) <<< (v8 &&& 31)) : Int32) fun v19 => some (.inl (v19, v8 + 1, z16))) else (pu_l1 (v7 ||| 0 : Int32) fun v18 => some (.inl (v18, v8 + 1, z16))))
def fX6_together (z : MS) (a1 : Int32) (a2 : Int32) : Option (Int32 × MS) :=
  pu_b2 (fX6_putsIn z a1 a2) fun v1 z2 => if v1 = 0 then (some (((-2) : Int32), z2)) else (pu_l1 (ma z2 22 (60 : Int32).toNatClampNeg : Int32) fun v4 => pu_b2 (pu_it (fun q => fX6_together_L26 a2 v4 q.1 q.2.1 q.2.2) pu_F ((0 : Int32), (0 : Int32), z2)) fun v20 z21 => some (v20, z21))
theorem cd_X6_together : yX6_together.cls = RX6 ∧ yX6_together.cls ≠ "java/lang/invoke/MethodHandle" ∧ yX6_together.cls ≠ "java/lang/invoke/VarHandle" ∧ (parseMethodDescriptor yX6_together.desc).map (fun d => d.parameters.length) = some 2 := by decide +kernel
def fX6_again_L17 (zc4 : MS) (v5 : Int32) (v6 : Int32) : Option ((Int32 × Int32) ⊕ ((Unit) ⊕ (Int32 × MS))) :=
  if (60 : Int32) < v6 then (some (.inr (.inl ()))) else (pu_g v6 61 (pu_l1 (ma zc4 22 v6.toNatClampNeg : Int32) fun v14 => if (0 : Int32) ≤ v14 then (pu_g v6 61 (if (ma zc4 23 v6.toNatClampNeg) = 0 then (pu_l1 (v5 ||| ((1 : Int32) <<< (v14 &&& 31)) : Int32) fun v16 => some (.inl (v16, v6 + 1))) else (if (fX6_bit v5 v14) = 1 then (some (.inr (.inr (v6, zc4)))) else (pu_l1 (v5 ||| ((1 : Int32) <<< (v14 &&& 31)) : Int32) fun v17 => some (.inl (v17, v6 + 1)))))) else (some (.inr (.inr (((-1) : Int32), zc4))))))
def fX6_again (z : MS) (a1 : Int32) (a2 : Int32) : Option (Int32 × MS) :=
  pu_b2 (fX6_putsIn z a1 a2) fun v1 z2 => if v1 = 0 then (some (((-2) : Int32), z2)) else (pu_s (pu_it (fun q => fX6_again_L17 z2 q.1 q.2) pu_F ((0 : Int32), a2)) fun ex => some (((-1) : Int32), z2))
theorem cd_X6_again : yX6_again.cls = RX6 ∧ yX6_again.cls ≠ "java/lang/invoke/MethodHandle" ∧ yX6_again.cls ≠ "java/lang/invoke/VarHandle" ∧ (parseMethodDescriptor yX6_again.desc).map (fun d => d.parameters.length) = some 2 := by decide +kernel
def fX6_can_L15 (p4 : Int32) (v5 : Int32) (v6 : Int32) (z7 : MS) : Option ((Int32 × Int32 × MS) ⊕ (Int32 × MS)) :=
  if (60 : Int32) < v6 then (some (.inr (v5, z7))) else (pu_b2 (fX6_way z7 p4 v6) fun v14 z15 => pu_l1 (v5 ||| v14 : Int32) fun v17 => some (.inl (v17, v6 + 1, z15)))
def fX6_can (z : MS) (a1 : Int32) : Option (Int32 × MS) :=
  pu_b2 (fX6_asksReach z a1) fun v1 z2 => if v1 = 0 then (some (((-2) : Int32), z2)) else (pu_b2 (pu_it (fun q => fX6_can_L15 a1 q.1 q.2.1 q.2.2) pu_F ((0 : Int32), (0 : Int32), z2)) fun v18 z19 => some (v18, z19))
theorem cd_X6_can : yX6_can.cls = RX6 ∧ yX6_can.cls ≠ "java/lang/invoke/MethodHandle" ∧ yX6_can.cls ≠ "java/lang/invoke/VarHandle" ∧ (parseMethodDescriptor yX6_can.desc).map (fun d => d.parameters.length) = some 1 := by decide +kernel
def fX6_finds_L20 (zc4 : MS) (v5 : Int32) (v6 : Int32) (v7 : Int32) : Option ((Int32 × Int32 × Int32) ⊕ (Int32)) :=
  if (60 : Int32) < v7 then (some (.inr (v6))) else (pu_g v7 61 (pu_l1 (ma zc4 22 v7.toNatClampNeg : Int32) fun v15 => if v15 < 0 then (some (.inl (v5, v6, v7 + 1))) else (if (fX6_bit v5 v15) = 1 then (some (.inl (v5, v6, v7 + 1))) else (pu_l1 (v5 ||| ((1 : Int32) <<< (v15 &&& 31)) : Int32) fun v16 => some (.inl (v16, v15, v7 + 1))))))
def fX6_finds (z : MS) (a1 : Int32) (a2 : Int32) : Option (Int32 × MS) :=
  pu_b2 (fX6_putsIn z a1 a2) fun v1 z2 => if v1 = 0 then (some (((-2) : Int32), z2)) else (pu_b1 (pu_it (fun q => fX6_finds_L20 z2 q.1 q.2.1 q.2.2) pu_F ((0 : Int32), a1, a2)) fun v17 => some (v17, z2))
theorem cd_X6_finds : yX6_finds.cls = RX6 ∧ yX6_finds.cls ≠ "java/lang/invoke/MethodHandle" ∧ yX6_finds.cls ≠ "java/lang/invoke/VarHandle" ∧ (parseMethodDescriptor yX6_finds.desc).map (fun d => d.parameters.length) = some 2 := by decide +kernel
def fX6_from_L24 (p4 : Int32) (p5 : Int32) (v6 : Int32) (v7 : Int32) (z8 : MS) : Option ((Int32 × Int32 × MS) ⊕ (Int32 × MS)) :=
  if (ma z8 1 (3 : Int32).toNatClampNeg) ≤ v7 then (some (.inr (v6, z8))) else (pu_b1 (fX6_goStick z8 v7 (0 : Int32)) fun z15 => pu_g p5 61 (if (ma z15 22 p5.toNatClampNeg) = p4 then (pu_l1 (v6 ||| ((1 : Int32) <<< (v7 &&& 31)) : Int32) fun v19 => some (.inl (v19, v7 + 1, z15))) else (pu_l1 (v6 ||| 0 : Int32) fun v18 => some (.inl (v18, v7 + 1, z15)))))
def fX6_from (z : MS) (a1 : Int32) (a2 : Int32) : Option (Int32 × MS) :=
  pu_b2 (fX6_asksReach z a1) fun v1 z2 => if v1 = 0 then (some (((-2) : Int32), z2)) else (if (fX6_isStep a2.toInt64) = 0 then (some (((-2) : Int32), z2)) else (pu_b2 (pu_it (fun q => fX6_from_L24 a1 a2 q.1 q.2.1 q.2.2) pu_F ((0 : Int32), (0 : Int32), z2)) fun v20 z21 => some (v20, z21)))
theorem cd_X6_from : yX6_from.cls = RX6 ∧ yX6_from.cls ≠ "java/lang/invoke/MethodHandle" ∧ yX6_from.cls ≠ "java/lang/invoke/VarHandle" ∧ (parseMethodDescriptor yX6_from.desc).map (fun d => d.parameters.length) = some 2 := by decide +kernel
def fX6_ends_L22 (p4 : Int32) (v5 : Int32) (v6 : Int32) (z7 : MS) : Option ((Int32 × Int32 × MS) ⊕ (Int32 × MS)) :=
  if (ma z7 1 (3 : Int32).toNatClampNeg) ≤ v6 then (some (.inr (v5, z7))) else (pu_b1 (fX6_goStick z7 v6 p4) fun z14 => pu_b1 (fX6_comesOf z14 p4 ((-1) : Int32)) fun v16 => if v16 = (-1) then (pu_l1 (v5 ||| 0 : Int32) fun v19 => some (.inl (v19, v6 + 1, z14))) else (pu_l1 (v5 ||| ((1 : Int32) <<< (v6 &&& 31)) : Int32) fun v18 => some (.inl (v18, v6 + 1, z14))))
def fX6_ends (z : MS) (a1 : Int32) : Option (Int32 × MS) :=
  pu_b2 (fX6_asksRivers z) fun v1 z2 => if v1 = 0 then (some (((-2) : Int32), z2)) else (if (fX6_isStep a1.toInt64) = 0 then (some (((-2) : Int32), z2)) else (pu_b2 (pu_it (fun q => fX6_ends_L22 a1 q.1 q.2.1 q.2.2) pu_F ((0 : Int32), (0 : Int32), z2)) fun v20 z21 => some (v20, z21)))
theorem cd_X6_ends : yX6_ends.cls = RX6 ∧ yX6_ends.cls ≠ "java/lang/invoke/MethodHandle" ∧ yX6_ends.cls ≠ "java/lang/invoke/VarHandle" ∧ (parseMethodDescriptor yX6_ends.desc).map (fun d => d.parameters.length) = some 1 := by decide +kernel
def fX6_meet_L23 (p4 : Int32) (v5 : Int32) (z6 : MS) : Option ((Int32 × MS) ⊕ (MS)) :=
  if (60 : Int32) < v5 then (some (.inr (z6))) else (pu_g v5 61 (pu_g v5 61 (let z15 := msa z6 27 v5 (ma z6 22 v5.toNatClampNeg); some (.inl (v5 + 1, z15)))))
def fX6_meet_L55 (zc19 : MS) (v20 : Int32) : Option ((Int32) ⊕ ((Unit) ⊕ (Int32 × MS))) :=
  if (60 : Int32) < v20 then (some (.inr (.inl ()))) else (pu_g v20 61 (if (ma zc19 22 v20.toNatClampNeg) < 0 then (some (.inl (v20 + 1))) else (pu_g v20 61 (pu_g v20 61 (if (ma zc19 22 v20.toNatClampNeg) = (ma zc19 27 v20.toNatClampNeg) then (some (.inr (.inr (v20, zc19)))) else (some (.inl (v20 + 1))))))))
def fX6_meet (z : MS) (a1 : Int32) (a2 : Int32) : Option (Int32 × MS) :=
  if (fX6_isReach z a2.toInt64) = 0 then (some (((-2) : Int32), z)) else (pu_b2 (fX6_putsIn z a1 (0 : Int32)) fun v1 z2 => if v1 = 0 then (some (((-2) : Int32), z2)) else (pu_b1 (pu_it (fun q => fX6_meet_L23 a2 q.1 q.2) pu_F ((0 : Int32), z2)) fun z16 => pu_b1 (fX6_goStick z16 a2 (0 : Int32)) fun z17 => pu_s (pu_it (fun q => fX6_meet_L55 z17 q) pu_F ((0 : Int32))) fun ex => some (((-1) : Int32), z17)))
theorem cd_X6_meet : yX6_meet.cls = RX6 ∧ yX6_meet.cls ≠ "java/lang/invoke/MethodHandle" ∧ yX6_meet.cls ≠ "java/lang/invoke/VarHandle" ∧ (parseMethodDescriptor yX6_meet.desc).map (fun d => d.parameters.length) = some 2 := by decide +kernel
def fX6_alike_L23 (p4 : Int32) (v5 : Int32) (z6 : MS) : Option ((Int32 × MS) ⊕ (MS)) :=
  if (60 : Int32) < v5 then (some (.inr (z6))) else (pu_g v5 61 (pu_g v5 61 (let z15 := msa z6 27 v5 (ma z6 22 v5.toNatClampNeg); some (.inl (v5 + 1, z15)))))
def fX6_alike_L58 (zc19 : MS) (v20 : Int32) (v21 : Int32) : Option ((Int32 × Int32) ⊕ (Int32)) :=
  if (60 : Int32) < v21 then (some (.inr (v20))) else (pu_g v21 61 (if (ma zc19 22 v21.toNatClampNeg) < 0 then (pu_l1 (v20 + 0 : Int32) fun v29 => some (.inl (v29, v21 + 1))) else (pu_g v21 61 (pu_g v21 61 (if (ma zc19 22 v21.toNatClampNeg) = (ma zc19 27 v21.toNatClampNeg) then (pu_l1 (v20 + 1 : Int32) fun v33 => some (.inl (v33, v21 + 1))) else (pu_l1 (v20 + 0 : Int32) fun v32 => some (.inl (v32, v21 + 1))))))))
def fX6_alike (z : MS) (a1 : Int32) (a2 : Int32) : Option (Int32 × MS) :=
  if (fX6_isReach z a2.toInt64) = 0 then (some (((-2) : Int32), z)) else (pu_b2 (fX6_putsIn z a1 (0 : Int32)) fun v1 z2 => if v1 = 0 then (some (((-2) : Int32), z2)) else (pu_b1 (pu_it (fun q => fX6_alike_L23 a2 q.1 q.2) pu_F ((0 : Int32), z2)) fun z16 => pu_b1 (fX6_goStick z16 a2 (0 : Int32)) fun z17 => pu_b1 (pu_it (fun q => fX6_alike_L58 z17 q.1 q.2) pu_F ((0 : Int32), (0 : Int32))) fun v34 => some (v34, z17)))
theorem cd_X6_alike : yX6_alike.cls = RX6 ∧ yX6_alike.cls ≠ "java/lang/invoke/MethodHandle" ∧ yX6_alike.cls ≠ "java/lang/invoke/VarHandle" ∧ (parseMethodDescriptor yX6_alike.desc).map (fun d => d.parameters.length) = some 2 := by decide +kernel
def fX6_busy_L20 (p4 : Int32) (v5 : Int32) (z6 : MS) : Option ((Int32 × MS) ⊕ (MS)) :=
  if (10 : Int32) ≤ v5 then (some (.inr (z6))) else (pu_g v5 10 (let z14 := msa z6 28 v5 0; some (.inl (v5 + 1, z14))))
def fX6_busy_L41 (p16 : Int32) (v17 : Int32) (z18 : MS) : Option ((Int32 × MS) ⊕ (MS)) :=
  if (ma z18 1 (3 : Int32).toNatClampNeg) ≤ v17 then (some (.inr (z18))) else (pu_b1 (fX6_goStick z18 v17 (0 : Int32)) fun z25 => pu_g p16 61 (if (ma z25 22 p16.toNatClampNeg) < 0 then (some (.inl (v17 + 1, z25))) else (pu_g p16 61 (pu_g (ma z25 22 p16.toNatClampNeg) 10 (pu_g (ma z25 22 p16.toNatClampNeg) 10 (let z31 := msa z25 28 (ma z25 22 p16.toNatClampNeg) ((ma z25 28 (ma z25 22 p16.toNatClampNeg : Int32).toNatClampNeg) + 1); some (.inl (v17 + 1, z31))))))))
def fX6_busy_L91 (zc33 : MS) (v34 : Int32) (v35 : Int32) : Option ((Int32 × Int32) ⊕ (Int32)) :=
  if (10 : Int32) ≤ v35 then (some (.inr (v34))) else (pu_g v35 10 (pu_b1 (if v34 = (-1) then (some (0 : Int32)) else (pu_g v34 10 (some (ma zc33 28 v34.toNatClampNeg))) : Option (Int32)) fun v43 => if (ma zc33 28 v35.toNatClampNeg) ≤ v43 then (some (.inl (v34, v35 + 1))) else (some (.inl (v35, v35 + 1)))))
def fX6_busy (z : MS) (a1 : Int32) : Option (Int32 × MS) :=
  pu_b2 (fX6_asksRivers z) fun v1 z2 => if v1 = 0 then (some (((-2) : Int32), z2)) else (if (fX6_isStep a1.toInt64) = 0 then (some (((-2) : Int32), z2)) else (pu_b1 (pu_it (fun q => fX6_busy_L20 a1 q.1 q.2) pu_F ((0 : Int32), z2)) fun z15 => pu_b1 (pu_it (fun q => fX6_busy_L41 a1 q.1 q.2) pu_F ((0 : Int32), z15)) fun z32 => pu_b1 (pu_it (fun q => fX6_busy_L91 z32 q.1 q.2) pu_F (((-1) : Int32), (0 : Int32))) fun v47 => some (v47, z32)))
theorem cd_X6_busy : yX6_busy.cls = RX6 ∧ yX6_busy.cls ≠ "java/lang/invoke/MethodHandle" ∧ yX6_busy.cls ≠ "java/lang/invoke/VarHandle" ∧ (parseMethodDescriptor yX6_busy.desc).map (fun d => d.parameters.length) = some 1 := by decide +kernel
def fX6_areTwo (z : MS) (a1 : Int32) (a2 : Int32) : Option (Int32 × MS) :=
  pu_b2 (fX6_asksReach z a1) fun v1 z2 => if v1 = 0 then (some ((0 : Int32), z2)) else (if (fX6_isReach z2 a2.toInt64) = 0 then (some ((0 : Int32), z2)) else (some ((1 : Int32), z2)))
theorem cd_X6_areTwo : yX6_areTwo.cls = RX6 ∧ yX6_areTwo.cls ≠ "java/lang/invoke/MethodHandle" ∧ yX6_areTwo.cls ≠ "java/lang/invoke/VarHandle" ∧ (parseMethodDescriptor yX6_areTwo.desc).map (fun d => d.parameters.length) = some 2 := by decide +kernel
def fX6_soon_L22 (p4 : Int32) (p5 : Int32) (v6 : Int32) (v7 : Int32) (v8 : Int32) (z9 : MS) : Option ((Int32 × Int32 × Int32 × MS) ⊕ (Int32 × MS)) :=
  if (60 : Int32) < v8 then (some (.inr (v6, z9))) else (pu_b1 (fX6_goStick z9 p4 v8) fun z16 => pu_b1 (fX6_comesOf z16 v8 p5) fun v18 => if v18 = (-1) then (some (.inl (v6, v7, v8 + 1, z16))) else (if v18 ≤ v7 then (some (.inl (v8, v18, v8 + 1, z16))) else (some (.inl (v6, v7, v8 + 1, z16)))))
def fX6_soon (z : MS) (a1 : Int32) (a2 : Int32) : Option (Int32 × MS) :=
  pu_b2 (fX6_areTwo z a1 a2) fun v1 z2 => if v1 = 0 then (some (((-2) : Int32), z2)) else (pu_b2 (pu_it (fun q => fX6_soon_L22 a1 a2 q.1 q.2.1 q.2.2.1 q.2.2.2) pu_F (((-1) : Int32), (1000000000 : Int32), (0 : Int32), z2)) fun v20 z21 => some (v20, z21))
theorem cd_X6_soon : yX6_soon.cls = RX6 ∧ yX6_soon.cls ≠ "java/lang/invoke/MethodHandle" ∧ yX6_soon.cls ≠ "java/lang/invoke/VarHandle" ∧ (parseMethodDescriptor yX6_soon.desc).map (fun d => d.parameters.length) = some 2 := by decide +kernel
def fX6_quickOf_L12 (p2 : Int32) (p3 : Int32) (v4 : Int32) (v5 : Int32) (z6 : MS) : Option ((Int32 × Int32 × MS) ⊕ (Int32 × MS)) :=
  if (60 : Int32) < v5 then (some (.inr (v4, z6))) else (pu_b1 (fX6_goStick z6 p2 v5) fun z13 => pu_b1 (fX6_comesOf z13 v5 p3) fun v15 => if v15 = (-1) then (some (.inl (v4, v5 + 1, z13))) else (if (v15 - v5) < v4 then (pu_l1 (v15 - v5 : Int32) fun v17 => let z18 := msi z13 29 v5; some (.inl (v17, v5 + 1, z18))) else (some (.inl (v4, v5 + 1, z13)))))
def fX6_quickOf (z : MS) (a1 : Int32) (a2 : Int32) : Option (Int32 × MS) :=
  let z1 := msi z 29 (-1); pu_b2 (pu_it (fun q => fX6_quickOf_L12 a1 a2 q.1 q.2.1 q.2.2) pu_F ((1000000000 : Int32), (0 : Int32), z1)) fun v19 z20 => if v19 = 1000000000 then (some (((-1) : Int32), z20)) else (some (v19, z20))
theorem cd_X6_quickOf : yX6_quickOf.cls = RX6 ∧ yX6_quickOf.cls ≠ "java/lang/invoke/MethodHandle" ∧ yX6_quickOf.cls ≠ "java/lang/invoke/VarHandle" ∧ (parseMethodDescriptor yX6_quickOf.desc).map (fun d => d.parameters.length) = some 2 := by decide +kernel
def fX6_quick (z : MS) (a1 : Int32) (a2 : Int32) : Option (Int32 × MS) :=
  pu_b2 (fX6_areTwo z a1 a2) fun v1 z2 => if v1 = 0 then (some (((-2) : Int32), z2)) else (pu_b2 (fX6_quickOf z2 a1 a2) fun v4 z5 => some (v4, z5))
theorem cd_X6_quick : yX6_quick.cls = RX6 ∧ yX6_quick.cls ≠ "java/lang/invoke/MethodHandle" ∧ yX6_quick.cls ≠ "java/lang/invoke/VarHandle" ∧ (parseMethodDescriptor yX6_quick.desc).map (fun d => d.parameters.length) = some 2 := by decide +kernel
def fX6_quickly (z : MS) (a1 : Int32) (a2 : Int32) : Option (Int32 × MS) :=
  pu_b2 (fX6_areTwo z a1 a2) fun v1 z2 => if v1 = 0 then (some (((-2) : Int32), z2)) else (pu_b2 (fX6_quickOf z2 a1 a2) fun v4 z5 => some (mi z5 29, z5))
theorem cd_X6_quickly : yX6_quickly.cls = RX6 ∧ yX6_quickly.cls ≠ "java/lang/invoke/MethodHandle" ∧ yX6_quickly.cls ≠ "java/lang/invoke/VarHandle" ∧ (parseMethodDescriptor yX6_quickly.desc).map (fun d => d.parameters.length) = some 2 := by decide +kernel
def fX6_slowly_L17 (p4 : Int32) (p5 : Int32) (v6 : Int32) (v7 : Int32) (z8 : MS) : Option ((Int32 × Int32 × MS) ⊕ (Int32 × MS)) :=
  if (60 : Int32) < v7 then (some (.inr (v6, z8))) else (pu_b1 (fX6_goStick z8 p4 v7) fun z15 => pu_b1 (fX6_comesOf z15 v7 p5) fun v17 => if v17 = (-1) then (some (.inl (v6, v7 + 1, z15))) else (pu_l1 (pu_max v6 (v17 - v7) : Int32) fun v19 => some (.inl (v19, v7 + 1, z15))))
def fX6_slowly (z : MS) (a1 : Int32) (a2 : Int32) : Option (Int32 × MS) :=
  pu_b2 (fX6_areTwo z a1 a2) fun v1 z2 => if v1 = 0 then (some (((-2) : Int32), z2)) else (pu_b2 (pu_it (fun q => fX6_slowly_L17 a1 a2 q.1 q.2.1 q.2.2) pu_F (((-1) : Int32), (0 : Int32), z2)) fun v20 z21 => some (v20, z21))
theorem cd_X6_slowly : yX6_slowly.cls = RX6 ∧ yX6_slowly.cls ≠ "java/lang/invoke/MethodHandle" ∧ yX6_slowly.cls ≠ "java/lang/invoke/VarHandle" ∧ (parseMethodDescriptor yX6_slowly.desc).map (fun d => d.parameters.length) = some 2 := by decide +kernel
def fX6_late_L23 (p4 : Int32) (p5 : Int32) (p6 : Int32) (v7 : Int32) (z8 : MS) : Option ((Int32 × MS) ⊕ ((MS) ⊕ (Int32 × MS))) :=
  if v7 < 0 then (some (.inr (.inl (z8)))) else (pu_b1 (fX6_goStick z8 p4 v7) fun z15 => pu_g p6 61 (if (ma z15 22 p6.toNatClampNeg) = p5 then (some (.inr (.inr (v7, z15)))) else (some (.inl (v7 + (-1), z15)))))
def fX6_late (z : MS) (a1 : Int32) (a2 : Int32) (a3 : Int32) : Option (Int32 × MS) :=
  pu_b2 (fX6_areTwo z a1 a2) fun v1 z2 => if v1 = 0 then (some (((-2) : Int32), z2)) else (if (fX6_isStep a3.toInt64) = 0 then (some (((-2) : Int32), z2)) else (pu_s (pu_it (fun q => fX6_late_L23 a1 a2 a3 q.1 q.2) pu_F (a3, z2)) fun ex => pu_l1 ex fun z18 => some (((-1) : Int32), z18)))
theorem cd_X6_late : yX6_late.cls = RX6 ∧ yX6_late.cls ≠ "java/lang/invoke/MethodHandle" ∧ yX6_late.cls ≠ "java/lang/invoke/VarHandle" ∧ (parseMethodDescriptor yX6_late.desc).map (fun d => d.parameters.length) = some 3 := by decide +kernel
def fX6_oftenOf_L5 (p1 : Int32) (p2 : Int32) (v3 : Int32) (v4 : Int32) (z5 : MS) : Option ((Int32 × Int32 × MS) ⊕ (Int32 × MS)) :=
  if (60 : Int32) < v4 then (some (.inr (v3, z5))) else (pu_b1 (fX6_goStick z5 p1 v4) fun z12 => pu_b1 (fX6_comesOf z12 v4 p2) fun v14 => if v14 = (-1) then (pu_l1 (v3 + 0 : Int32) fun v17 => some (.inl (v17, v4 + 1, z12))) else (pu_l1 (v3 + 1 : Int32) fun v16 => some (.inl (v16, v4 + 1, z12))))
def fX6_oftenOf (z : MS) (a1 : Int32) (a2 : Int32) : Option (Int32 × MS) :=
  pu_b2 (pu_it (fun q => fX6_oftenOf_L5 a1 a2 q.1 q.2.1 q.2.2) pu_F ((0 : Int32), (0 : Int32), z)) fun v18 z19 => some (v18, z19)
theorem cd_X6_oftenOf : yX6_oftenOf.cls = RX6 ∧ yX6_oftenOf.cls ≠ "java/lang/invoke/MethodHandle" ∧ yX6_oftenOf.cls ≠ "java/lang/invoke/VarHandle" ∧ (parseMethodDescriptor yX6_oftenOf.desc).map (fun d => d.parameters.length) = some 2 := by decide +kernel
def fX6_often (z : MS) (a1 : Int32) (a2 : Int32) : Option (Int32 × MS) :=
  pu_b2 (fX6_areTwo z a1 a2) fun v1 z2 => if v1 = 0 then (some (((-2) : Int32), z2)) else (pu_b2 (fX6_oftenOf z2 a1 a2) fun v4 z5 => some (v4, z5))
theorem cd_X6_often : yX6_often.cls = RX6 ∧ yX6_often.cls ≠ "java/lang/invoke/MethodHandle" ∧ yX6_often.cls ≠ "java/lang/invoke/VarHandle" ∧ (parseMethodDescriptor yX6_often.desc).map (fun d => d.parameters.length) = some 2 := by decide +kernel
def fX6_bits_L4 (p1 : Int32) (v2 : Int32) (v3 : Int32) : Option ((Int32 × Int32) ⊕ (Int32)) :=
  if (10 : Int32) ≤ v3 then (some (.inr (v2))) else (pu_l1 (v2 + ((p1 >>> (v3 &&& 31)) &&& 1) : Int32) fun v10 => some (.inl (v10, v3 + 1)))
def fX6_bits (a1 : Int32) : Option (Int32) :=
  pu_b1 (pu_it (fun q => fX6_bits_L4 a1 q.1 q.2) pu_F ((0 : Int32), (0 : Int32))) fun v11 => some v11
theorem cd_X6_bits : yX6_bits.cls ≠ "java/lang/invoke/MethodHandle" ∧ yX6_bits.cls ≠ "java/lang/invoke/VarHandle" ∧ (parseMethodDescriptor yX6_bits.desc).map (fun d => d.parameters.length) = some 1 := by decide +kernel
def fX6_stopsOf_L5 (p1 : Int32) (p2 : Int32) (v3 : Int32) (v4 : Int32) (z5 : MS) : Option ((Int32 × Int32 × MS) ⊕ (Int32 × MS)) :=
  if ((1 : Int32) <<< ((ma z5 1 (3 : Int32).toNatClampNeg : Int32) &&& 31)) ≤ v4 then (some (.inr (v3, z5))) else (if (fX6_bit v4 p1) = 1 then (some (.inl (v3, v4 + 1, z5))) else (if (fX6_bit v4 p2) = 1 then (some (.inl (v3, v4 + 1, z5))) else (if v3 = (-1) then (let z12 := msi z5 21 v4; pu_b2 (fX6_oftenOf z12 p1 p2) fun v13 z14 => if v13 = 0 then (some (.inl (v4, v4 + 1, z14))) else (some (.inl (v3, v4 + 1, z14)))) else (pu_b1 (fX6_bits v4) fun v16 => pu_b1 (fX6_bits v3) fun v18 => if v16 < v18 then (let z20 := msi z5 21 v4; pu_b2 (fX6_oftenOf z20 p1 p2) fun v21 z22 => if v21 = 0 then (some (.inl (v4, v4 + 1, z22))) else (some (.inl (v3, v4 + 1, z22)))) else (some (.inl (v3, v4 + 1, z5)))))))
def fX6_stopsOf (z : MS) (a1 : Int32) (a2 : Int32) : Option (Int32 × MS) :=
  pu_b2 (pu_it (fun q => fX6_stopsOf_L5 a1 a2 q.1 q.2.1 q.2.2) pu_F (((-1) : Int32), (0 : Int32), z)) fun v24 z25 => let z26 := msi z25 21 0; some (v24, z26)
theorem cd_X6_stopsOf : yX6_stopsOf.cls = RX6 ∧ yX6_stopsOf.cls ≠ "java/lang/invoke/MethodHandle" ∧ yX6_stopsOf.cls ≠ "java/lang/invoke/VarHandle" ∧ (parseMethodDescriptor yX6_stopsOf.desc).map (fun d => d.parameters.length) = some 2 := by decide +kernel
def fX6_stop (z : MS) (a1 : Int32) (a2 : Int32) : Option (Int32 × MS) :=
  pu_b2 (fX6_areTwo z a1 a2) fun v1 z2 => if v1 = 0 then (some (((-2) : Int32), z2)) else (pu_b2 (fX6_stopsOf z2 a1 a2) fun v4 z5 => if v4 = (-1) then (some (((-1) : Int32), z5)) else (pu_b1 (fX6_bits v4) fun v7 => some (v7, z5)))
theorem cd_X6_stop : yX6_stop.cls = RX6 ∧ yX6_stop.cls ≠ "java/lang/invoke/MethodHandle" ∧ yX6_stop.cls ≠ "java/lang/invoke/VarHandle" ∧ (parseMethodDescriptor yX6_stop.desc).map (fun d => d.parameters.length) = some 2 := by decide +kernel
def fX6_stops (z : MS) (a1 : Int32) (a2 : Int32) : Option (Int32 × MS) :=
  pu_b2 (fX6_areTwo z a1 a2) fun v1 z2 => if v1 = 0 then (some (((-2) : Int32), z2)) else (pu_b2 (fX6_stopsOf z2 a1 a2) fun v4 z5 => some (v4, z5))
theorem cd_X6_stops : yX6_stops.cls = RX6 ∧ yX6_stops.cls ≠ "java/lang/invoke/MethodHandle" ∧ yX6_stops.cls ≠ "java/lang/invoke/VarHandle" ∧ (parseMethodDescriptor yX6_stops.desc).map (fun d => d.parameters.length) = some 2 := by decide +kernel
def fX6_seaOf (z : MS) (a1 : Int32) (a2 : Int32) : Option (Int32 × MS) :=
  pu_b1 (fX6_goStick z a1 a2) fun z1 => pu_b1 (fX6_comesOf z1 a2 ((-1) : Int32)) fun v3 => if v3 = (-1) then (some ((1000000000 : Int32), z1)) else (some (v3, z1))
theorem cd_X6_seaOf : yX6_seaOf.cls = RX6 ∧ yX6_seaOf.cls ≠ "java/lang/invoke/MethodHandle" ∧ yX6_seaOf.cls ≠ "java/lang/invoke/VarHandle" ∧ (parseMethodDescriptor yX6_seaOf.desc).map (fun d => d.parameters.length) = some 2 := by decide +kernel
def fX6_shut_L38 (p8 : Int32) (p9 : Int32) (p10 : Int32) (v11 : Int32) (v12 : Int32) (v13 : Int32) (z14 : MS) : Option ((Int32 × Int32 × Int32 × MS) ⊕ (Int32 × MS)) :=
  if (ma z14 1 (4 : Int32).toNatClampNeg) ≤ v13 then (some (.inr (v11, z14))) else (let z21 := msi z14 20 (p10 ||| ((1 : Int32) <<< (v13 &&& 31))); pu_b2 (fX6_seaOf z21 p8 p9) fun v22 z23 => if v22 < v12 then (some (.inl (v13, v22, v13 + 1, z23))) else (some (.inl (v11, v12, v13 + 1, z23))))
def fX6_shut (z : MS) (a1 : Int32) (a2 : Int32) : Option (Int32 × MS) :=
  pu_b2 (fX6_asksReach z a1) fun v1 z2 => if v1 = 0 then (some (((-2) : Int32), z2)) else (if (fX6_isStep a2.toInt64) = 0 then (some (((-2) : Int32), z2)) else (pu_b2 (fX6_seaOf z2 a1 a2) fun v4 z5 => pu_l1 (mi z5 20 : Int32) fun v7 => pu_b2 (pu_it (fun q => fX6_shut_L38 a1 a2 v7 q.1 q.2.1 q.2.2.1 q.2.2.2) pu_F (((-1) : Int32), v4, (0 : Int32), z5)) fun v25 z26 => some (v25, z26)))
theorem cd_X6_shut : yX6_shut.cls = RX6 ∧ yX6_shut.cls ≠ "java/lang/invoke/MethodHandle" ∧ yX6_shut.cls ≠ "java/lang/invoke/VarHandle" ∧ (parseMethodDescriptor yX6_shut.desc).map (fun d => d.parameters.length) = some 2 := by decide +kernel
def fX6_pour_L38 (p6 : Int32) (p7 : Int32) (p8 : Int32) (p9 : Int32) (v10 : Int32) (z11 : MS) : Option ((Int32 × MS) ⊕ ((MS) ⊕ (Int32 × MS))) :=
  if (60 : Int32) < v10 then (some (.inr (.inl (z11)))) else (pu_g p8 61 (let z19 := msa z11 15 p8 (p9 + v10); pu_b1 (fX6_layLevels z19) fun z20 => pu_b2 (fX6_seaOf z20 p6 p7) fun v22 z23 => if (1000000000 : Int32) ≤ v22 then (some (.inl (v10 + 1, z23))) else (some (.inr (.inr (v10, z23))))))
def fX6_pour (z : MS) (a1 : Int32) (a2 : Int32) (a3 : Int32) : Option (Int32 × MS) :=
  pu_b2 (fX6_asksReach z a1) fun v1 z2 => if v1 = 0 then (some (((-2) : Int32), z2)) else (if (fX6_isStep a2.toInt64) = 0 then (some (((-2) : Int32), z2)) else (if (fX6_isStep a3.toInt64) = 0 then (some (((-2) : Int32), z2)) else (pu_g a3 61 (pu_l1 (ma z2 15 a3.toNatClampNeg : Int32) fun v5 => pu_s (pu_it (fun q => fX6_pour_L38 a1 a2 a3 v5 q.1 q.2) pu_F ((0 : Int32), z2)) fun ex => pu_l1 ex fun z25 => some (((-1) : Int32), z25)))))
theorem cd_X6_pour : yX6_pour.cls = RX6 ∧ yX6_pour.cls ≠ "java/lang/invoke/MethodHandle" ∧ yX6_pour.cls ≠ "java/lang/invoke/VarHandle" ∧ (parseMethodDescriptor yX6_pour.desc).map (fun d => d.parameters.length) = some 3 := by decide +kernel
def fX6_isSlot (a1 : Int32) : Int32 :=
  vp_nar .boolean (fX6_in a1.toInt64 (0 : Int64) (3 : Int64))
theorem cd_X6_isSlot : yX6_isSlot.cls ≠ "java/lang/invoke/MethodHandle" ∧ yX6_isSlot.cls ≠ "java/lang/invoke/VarHandle" ∧ (parseMethodDescriptor yX6_isSlot.desc).map (fun d => d.parameters.length) = some 1 := by decide +kernel
def fX6_numberAt (z : MS) (a1 : Int32) (a2 : Int32) : Option (Int64) :=
  pu_g ((60 * a1) + a2) 240 (some (ml z 40 ((60 * a1) + a2 : Int32).toNatClampNeg))
theorem cd_X6_numberAt : yX6_numberAt.cls = RX6 ∧ yX6_numberAt.cls ≠ "java/lang/invoke/MethodHandle" ∧ yX6_numberAt.cls ≠ "java/lang/invoke/VarHandle" ∧ (parseMethodDescriptor yX6_numberAt.desc).map (fun d => d.parameters.length) = some 2 := by decide +kernel
def fX6_askSeen_L50 (zc4 : MS) (p3 : Int32) (v5 : Int32) : Option ((Int32) ⊕ ((Unit) ⊕ (Int32 × MS))) :=
  pu_g p3 4 (if (ma zc4 38 p3.toNatClampNeg) ≤ v5 then (some (.inr (.inl ()))) else (pu_b1 (fX6_numberAt zc4 p3 v5) fun v13 => if (fX6_isStep v13) = 0 then (some (.inr (.inr (((-2) : Int32), zc4)))) else (pu_b1 (fX6_numberAt zc4 p3 (v5 + 1)) fun v15 => if (fX6_isReach zc4 v15) = 0 then (some (.inr (.inr (((-2) : Int32), zc4)))) else (some (.inl (v5 + 2))))))
def fX6_askSeen (z : MS) (a1 : Int32) (a2 : Int32) : Option (Int32 × MS) :=
  if (fX6_isSlot a1) = 0 then (some (((-2) : Int32), z)) else (if (fX6_isRivers z) = 0 then (some (((-2) : Int32), z)) else (if a2 = 0 then (some (((-2) : Int32), z)) else (pu_g a1 4 (if (ma z 38 a1.toNatClampNeg) = (-1) then (some (((-6) : Int32), z)) else (pu_g a1 4 (if ((ma z 38 a1.toNatClampNeg) - (ma z 38 a1.toNatClampNeg) / 2 * 2) = 0 then (pu_s (pu_it (fun q => fX6_askSeen_L50 z a1 q) pu_F ((0 : Int32))) fun ex => pu_b1 (fX6_asItIs z) fun z18 => some ((0 : Int32), z18)) else (some (((-2) : Int32), z))))))))
theorem cd_X6_askSeen : yX6_askSeen.cls = RX6 ∧ yX6_askSeen.cls ≠ "java/lang/invoke/MethodHandle" ∧ yX6_askSeen.cls ≠ "java/lang/invoke/VarHandle" ∧ (parseMethodDescriptor yX6_askSeen.desc).map (fun d => d.parameters.length) = some 2 := by decide +kernel
def fX6_isSeen_L2 (zc2 : MS) (p1 : Int32) (v3 : Int32) : Option ((Int32) ⊕ ((Unit) ⊕ (Int32))) :=
  pu_g p1 4 (if (ma zc2 38 p1.toNatClampNeg) ≤ v3 then (some (.inr (.inl ()))) else (pu_b1 (fX6_numberAt zc2 p1 v3) fun v11 => pu_g v11.toInt32 61 (pu_b1 (fX6_numberAt zc2 p1 (v3 + 1)) fun v14 => if (lg_cmp ((ma zc2 22 (v11.toInt32 : Int32).toNatClampNeg : Int32).toInt64) v14) = 0 then (some (.inl (v3 + 2))) else (some (.inr (.inr (0 : Int32)))))))
def fX6_isSeen (z : MS) (a1 : Int32) : Option (Int32) :=
  pu_s (pu_it (fun q => fX6_isSeen_L2 z a1 q) pu_F ((0 : Int32))) fun ex => some (1 : Int32)
theorem cd_X6_isSeen : yX6_isSeen.cls = RX6 ∧ yX6_isSeen.cls ≠ "java/lang/invoke/MethodHandle" ∧ yX6_isSeen.cls ≠ "java/lang/invoke/VarHandle" ∧ (parseMethodDescriptor yX6_isSeen.desc).map (fun d => d.parameters.length) = some 1 := by decide +kernel
def fX6_layPairs_L75 (p32 : Int32) (p33 : Int32) (p34 : Int32) (p35 : Int32) (v36 : Int32) (z37 : MS) : Option ((Int32 × MS) ⊕ (MS)) :=
  if (60 : Int32) < v36 then (some (.inr (z37))) else (pu_g v36 61 (pu_g ((61 * (mi z37 32)) + v36) 37210 (let z46 := msa z37 31 ((61 * (mi z37 32)) + v36) (vp_nar .byte ((ma z37 22 v36.toNatClampNeg : Int32).toInt8.toInt32)); some (.inl (v36 + 1, z46)))))
def fX6_layPairs_L31 (p15 : Int32) (p16 : Int32) (p17 : Int32) (v18 : Int32) (z19 : MS) : Option ((Int32 × MS) ⊕ (MS)) :=
  if (60 : Int32) < v18 then (some (.inr (z19))) else (pu_b1 (fX6_goStick z19 p17 v18) fun z26 => pu_b1 (fX6_isSeen z26 p15) fun v28 => if v28 = 0 then (some (.inl (v18 + 1, z26))) else (pu_g (mi z26 32) 610 (let z31 := msa z26 30 (mi z26 32) ((100 * p17) + v18); pu_b1 (pu_it (fun q => fX6_layPairs_L75 p15 p16 p17 v18 q.1 q.2) pu_F ((0 : Int32), z31)) fun z47 => let z48 := msi z47 32 ((mi z47 32) + 1); some (.inl (v18 + 1, z48)))))
def fX6_layPairs_L14 (p5 : Int32) (p6 : Int32) (v7 : Int32) (z8 : MS) : Option ((Int32 × MS) ⊕ (MS)) :=
  if (ma z8 1 (3 : Int32).toNatClampNeg) ≤ v7 then (some (.inr (z8))) else (if p6 = 0 then (pu_b1 (pu_it (fun q => fX6_layPairs_L31 p5 p6 v7 q.1 q.2) pu_F ((0 : Int32), z8)) fun z49 => some (.inl (v7 + 1, z49))) else (some (.inr (z8))))
def fX6_layPairs (z : MS) (a1 : Int32) : Option (Int32 × MS) :=
  pu_b2 (fX6_askSeen z a1 (1 : Int32)) fun v1 z2 => let z4 := msi z2 32 0; pu_b1 (pu_it (fun q => fX6_layPairs_L14 a1 v1 q.1 q.2) pu_F ((0 : Int32), z4)) fun z50 => some (v1, z50)
theorem cd_X6_layPairs : yX6_layPairs.cls = RX6 ∧ yX6_layPairs.cls ≠ "java/lang/invoke/MethodHandle" ∧ yX6_layPairs.cls ≠ "java/lang/invoke/VarHandle" ∧ (parseMethodDescriptor yX6_layPairs.desc).map (fun d => d.parameters.length) = some 1 := by decide +kernel
def fX6_fits (z : MS) (a1 : Int32) : Option (Int32 × MS) :=
  pu_b2 (fX6_layPairs z a1) fun v1 z2 => if (0 : Int32) ≤ v1 then (some (mi z2 32, z2)) else (some (v1, z2))
theorem cd_X6_fits : yX6_fits.cls = RX6 ∧ yX6_fits.cls ≠ "java/lang/invoke/MethodHandle" ∧ yX6_fits.cls ≠ "java/lang/invoke/VarHandle" ∧ (parseMethodDescriptor yX6_fits.desc).map (fun d => d.parameters.length) = some 1 := by decide +kernel
def fX6_sources_L17 (zc4 : MS) (v5 : Int32) (v6 : Int32) : Option ((Int32 × Int32) ⊕ (Int32)) :=
  if (mi zc4 32) ≤ v6 then (some (.inr (v5))) else (pu_g v6 610 (pu_l1 (v5 ||| ((1 : Int32) <<< (((ma zc4 30 v6.toNatClampNeg) / 100 : Int32) &&& 31)) : Int32) fun v14 => some (.inl (v14, v6 + 1))))
def fX6_sources (z : MS) (a1 : Int32) : Option (Int32 × MS) :=
  pu_b2 (fX6_layPairs z a1) fun v1 z2 => if (0 : Int32) ≤ v1 then (pu_b1 (pu_it (fun q => fX6_sources_L17 z2 q.1 q.2) pu_F ((0 : Int32), (0 : Int32))) fun v15 => some (v15, z2)) else (some (v1, z2))
theorem cd_X6_sources : yX6_sources.cls = RX6 ∧ yX6_sources.cls ≠ "java/lang/invoke/MethodHandle" ∧ yX6_sources.cls ≠ "java/lang/invoke/VarHandle" ∧ (parseMethodDescriptor yX6_sources.desc).map (fun d => d.parameters.length) = some 1 := by decide +kernel
def fX6_source (z : MS) (a1 : Int32) : Option (Int32 × MS) :=
  pu_b2 (fX6_layPairs z a1) fun v1 z2 => if (0 : Int32) ≤ v1 then (if (mi z2 32) = 0 then (some (((-1) : Int32), z2)) else (some (ma z2 30 (0 : Int32).toNatClampNeg, z2))) else (some (v1, z2))
theorem cd_X6_source : yX6_source.cls = RX6 ∧ yX6_source.cls ≠ "java/lang/invoke/MethodHandle" ∧ yX6_source.cls ≠ "java/lang/invoke/VarHandle" ∧ (parseMethodDescriptor yX6_source.desc).map (fun d => d.parameters.length) = some 1 := by decide +kernel
def fX6_askOf_L37 (zc26 : MS) (p22 : Int32) (p23 : Int32) (p24 : Int32) (p25 : Int32) (v27 : Int32) (v28 : Int32) : Option ((Int32 × Int32) ⊕ (Int32)) :=
  if (mi zc26 32) ≤ v28 then (some (.inr (v27))) else (pu_g ((61 * v28) + p23) 37210 (if (ma zc26 31 ((61 * v28) + p23 : Int32).toNatClampNeg) = p25 then (pu_l1 (v27 + 1 : Int32) fun v37 => some (.inl (v37, v28 + 1))) else (pu_l1 (v27 + 0 : Int32) fun v36 => some (.inl (v36, v28 + 1)))))
def fX6_askOf_L24 (zc13 : MS) (p11 : Int32) (p12 : Int32) (v14 : Int32) (v15 : Int32) : Option ((Int32 × Int32) ⊕ (Int32)) :=
  if (10 : Int32) ≤ v15 then (some (.inr (v14))) else (pu_b1 (pu_it (fun q => fX6_askOf_L37 zc13 p11 p12 v14 v15 q.1 q.2) pu_F ((0 : Int32), (0 : Int32))) fun v38 => pu_l1 (pu_max v14 v38 : Int32) fun v39 => some (.inl (v39, v15 + 1)))
def fX6_askOf_L12 (v2 : Int32) (v3 : Int32) (z4 : MS) : Option ((Int32 × Int32 × MS) ⊕ (Int32 × MS)) :=
  if (60 : Int32) < v3 then (some (.inr (v2, z4))) else (pu_b1 (pu_it (fun q => fX6_askOf_L24 z4 v2 v3 q.1 q.2) pu_F ((0 : Int32), ((-4) : Int32))) fun v40 => if v40 < (mi z4 33) then (let z41 := msi z4 33 v40; some (.inl (v3, v3 + 1, z41))) else (some (.inl (v2, v3 + 1, z4))))
def fX6_askOf (z : MS) : Option (Int32 × MS) :=
  let z1 := msi z 33 (mi z 32); pu_b2 (pu_it (fun q => fX6_askOf_L12 q.1 q.2.1 q.2.2) pu_F (((-1) : Int32), (0 : Int32), z1)) fun v42 z43 => some (v42, z43)
theorem cd_X6_askOf : yX6_askOf.cls = RX6 ∧ yX6_askOf.cls ≠ "java/lang/invoke/MethodHandle" ∧ yX6_askOf.cls ≠ "java/lang/invoke/VarHandle" ∧ (parseMethodDescriptor yX6_askOf.desc).map (fun d => d.parameters.length) = some 0 := by decide +kernel
def fX6_ask (z : MS) (a1 : Int32) : Option (Int32 × MS) :=
  pu_b2 (fX6_layPairs z a1) fun v1 z2 => if (0 : Int32) ≤ v1 then (pu_b2 (fX6_askOf z2) fun v4 z5 => some (v4, z5)) else (some (v1, z2))
theorem cd_X6_ask : yX6_ask.cls = RX6 ∧ yX6_ask.cls ≠ "java/lang/invoke/MethodHandle" ∧ yX6_ask.cls ≠ "java/lang/invoke/VarHandle" ∧ (parseMethodDescriptor yX6_ask.desc).map (fun d => d.parameters.length) = some 1 := by decide +kernel
def fX6_doubts (z : MS) (a1 : Int32) : Option (Int32 × MS) :=
  pu_b2 (fX6_layPairs z a1) fun v1 z2 => if (0 : Int32) ≤ v1 then (pu_b2 (fX6_askOf z2) fun v4 z5 => some (mi z5 33, z5)) else (some (v1, z2))
theorem cd_X6_doubts : yX6_doubts.cls = RX6 ∧ yX6_doubts.cls ≠ "java/lang/invoke/MethodHandle" ∧ yX6_doubts.cls ≠ "java/lang/invoke/VarHandle" ∧ (parseMethodDescriptor yX6_doubts.desc).map (fun d => d.parameters.length) = some 1 := by decide +kernel
def fX6_layTurns_L58 (p20 : Int32) (p21 : Int32) (p22 : Int32) (p23 : Int32) (v24 : Int32) (v25 : Int32) (z26 : MS) : Option ((Int32 × Int32 × MS) ⊕ (Int32 × MS)) :=
  if p23 ≤ v25 then (some (.inr (v24, z26))) else (pu_g p21 5 (let z34 := msa z26 18 p21 p23; pu_g p21 5 (let z36 := msa z34 19 p21 v25; pu_b1 (fX6_goStick z36 p22 (0 : Int32)) fun z37 => pu_b1 (fX6_isSeen z37 p20) fun v39 => if v39 = 0 then (some (.inl (v24, v25 + 1, z37))) else (if v24 = 0 then (let z42 := msi z37 34 ((10 * p23) + v25); some (.inl (v24 + 1, v25 + 1, z42))) else (let z41 := msi z37 34 (mi z37 34); some (.inl (v24 + 1, v25 + 1, z41)))))))
def fX6_layTurns_L48 (p8 : Int32) (p9 : Int32) (p10 : Int32) (v11 : Int32) (v12 : Int32) (z13 : MS) : Option ((Int32 × Int32 × MS) ⊕ (Int32 × MS)) :=
  if (9 : Int32) < v12 then (some (.inr (v11, z13))) else (pu_b2 (pu_it (fun q => fX6_layTurns_L58 p8 p9 p10 v12 q.1 q.2.1 q.2.2) pu_F (v11, (0 : Int32), z13)) fun v43 z44 => some (.inl (v43, v12 + 1, z44)))
def fX6_layTurns (z : MS) (a1 : Int32) (a2 : Int32) (a3 : Int32) : Option (Int32 × MS) :=
  pu_l1 (if (fX6_isJoin z a2) = 0 then ((0 : Int32)) else (if (fX6_isReach z a3.toInt64) = 0 then ((0 : Int32)) else ((1 : Int32))) : Int32) fun v1 => pu_b2 (fX6_askSeen z a1 v1) fun v4 z5 => if (0 : Int32) ≤ v4 then (let z7 := msi z5 34 (-1); pu_b2 (pu_it (fun q => fX6_layTurns_L48 a1 a2 a3 q.1 q.2.1 q.2.2) pu_F ((0 : Int32), (1 : Int32), z7)) fun v45 z46 => some (v45, z46)) else (some (v4, z5))
theorem cd_X6_layTurns : yX6_layTurns.cls = RX6 ∧ yX6_layTurns.cls ≠ "java/lang/invoke/MethodHandle" ∧ yX6_layTurns.cls ≠ "java/lang/invoke/VarHandle" ∧ (parseMethodDescriptor yX6_layTurns.desc).map (fun d => d.parameters.length) = some 3 := by decide +kernel
def fX6_turn (z : MS) (a1 : Int32) (a2 : Int32) (a3 : Int32) : Option (Int32 × MS) :=
  pu_b2 (fX6_layTurns z a1 a2 a3) fun v1 z2 => some (v1, z2)
theorem cd_X6_turn : yX6_turn.cls = RX6 ∧ yX6_turn.cls ≠ "java/lang/invoke/MethodHandle" ∧ yX6_turn.cls ≠ "java/lang/invoke/VarHandle" ∧ (parseMethodDescriptor yX6_turn.desc).map (fun d => d.parameters.length) = some 3 := by decide +kernel
def fX6_turned (z : MS) (a1 : Int32) (a2 : Int32) (a3 : Int32) : Option (Int32 × MS) :=
  pu_b2 (fX6_layTurns z a1 a2 a3) fun v1 z2 => if (0 : Int32) ≤ v1 then (some (mi z2 34, z2)) else (some (v1, z2))
theorem cd_X6_turned : yX6_turned.cls = RX6 ∧ yX6_turned.cls ≠ "java/lang/invoke/MethodHandle" ∧ yX6_turned.cls ≠ "java/lang/invoke/VarHandle" ∧ (parseMethodDescriptor yX6_turned.desc).map (fun d => d.parameters.length) = some 3 := by decide +kernel
def fX6_hasBy (a1 : Int32) (a2 : Int32) : Int32 :=
  (6 * a1) - (a1 * (a1 + a2))
theorem cd_X6_hasBy : yX6_hasBy.cls ≠ "java/lang/invoke/MethodHandle" ∧ yX6_hasBy.cls ≠ "java/lang/invoke/VarHandle" ∧ (parseMethodDescriptor yX6_hasBy.desc).map (fun d => d.parameters.length) = some 2 := by decide +kernel
def fX6_isRest_L2 (p1 : Int32) (p2 : Int32) (v3 : Int32) : Option ((Int32) ⊕ ((Unit) ⊕ (Int32))) :=
  if (5 : Int32) ≤ v3 then (some (.inr (.inl ()))) else (if (fX6_hasBy p1 p2) < (fX6_hasBy v3 p2) then (some (.inr (.inr (0 : Int32)))) else (if (fX6_hasBy v3 p1) ≤ (fX6_hasBy p2 p1) then (some (.inl (v3 + 1))) else (some (.inr (.inr (0 : Int32))))))
def fX6_isRest (a1 : Int32) (a2 : Int32) : Option (Int32) :=
  pu_s (pu_it (fun q => fX6_isRest_L2 a1 a2 q) pu_F ((0 : Int32))) fun ex => some (1 : Int32)
theorem cd_X6_isRest : yX6_isRest.cls ≠ "java/lang/invoke/MethodHandle" ∧ yX6_isRest.cls ≠ "java/lang/invoke/VarHandle" ∧ (parseMethodDescriptor yX6_isRest.desc).map (fun d => d.parameters.length) = some 2 := by decide +kernel
def fX6_rests_L4 (zc1 : MS) (v2 : Int32) (v3 : Int32) : Option ((Int32 × Int32) ⊕ (Int32)) :=
  if (25 : Int32) ≤ v3 then (some (.inr (v2))) else (pu_b1 (fX6_isRest (v3 / 5) (v3 - v3 / 5 * 5)) fun v10 => if v10 = 0 then (pu_l1 (v2 + 0 : Int32) fun v12 => some (.inl (v12, v3 + 1))) else (pu_l1 (v2 + 1 : Int32) fun v13 => some (.inl (v13, v3 + 1))))
def fX6_rests (z : MS) : Option (Int32) :=
  pu_b1 (pu_it (fun q => fX6_rests_L4 z q.1 q.2) pu_F ((0 : Int32), (0 : Int32))) fun v14 => some v14
theorem cd_X6_rests : yX6_rests.cls = RX6 ∧ yX6_rests.cls ≠ "java/lang/invoke/MethodHandle" ∧ yX6_rests.cls ≠ "java/lang/invoke/VarHandle" ∧ (parseMethodDescriptor yX6_rests.desc).map (fun d => d.parameters.length) = some 0 := by decide +kernel
def fX6_rest_L2 (zc1 : MS) (v2 : Int32) : Option ((Int32) ⊕ ((Unit) ⊕ (Int32))) :=
  if (25 : Int32) ≤ v2 then (some (.inr (.inl ()))) else (pu_b1 (fX6_isRest (v2 / 5) (v2 - v2 / 5 * 5)) fun v9 => if v9 = 0 then (some (.inl (v2 + 1))) else (some (.inr (.inr ((10 * (v2 / 5)) + (v2 - v2 / 5 * 5))))))
def fX6_rest (z : MS) : Option (Int32) :=
  pu_s (pu_it (fun q => fX6_rest_L2 z q) pu_F ((0 : Int32))) fun ex => some ((-1) : Int32)
theorem cd_X6_rest : yX6_rest.cls = RX6 ∧ yX6_rest.cls ≠ "java/lang/invoke/MethodHandle" ∧ yX6_rest.cls ≠ "java/lang/invoke/VarHandle" ∧ (parseMethodDescriptor yX6_rest.desc).map (fun d => d.parameters.length) = some 0 := by decide +kernel
def fX6_has (z : MS) (a1 : Int32) (a2 : Int32) : Int32 :=
  if (fX6_in a1.toInt64 (0 : Int64) (4 : Int64)) = 0 then (((-1000) : Int32)) else (if (fX6_in a2.toInt64 (0 : Int64) (4 : Int64)) = 0 then (((-1000) : Int32)) else (fX6_hasBy a1 a2))
theorem cd_X6_has : yX6_has.cls = RX6 ∧ yX6_has.cls ≠ "java/lang/invoke/MethodHandle" ∧ yX6_has.cls ≠ "java/lang/invoke/VarHandle" ∧ (parseMethodDescriptor yX6_has.desc).map (fun d => d.parameters.length) = some 2 := by decide +kernel
def fX6_answer_L19 (zc2 : MS) (p1 : Int32) (v3 : Int32) (v4 : Int32) : Option ((Int32 × Int32) ⊕ (Int32)) :=
  if (5 : Int32) ≤ v4 then (some (.inr (v3))) else (if (fX6_hasBy v4 p1) ≤ (fX6_hasBy v3 p1) then (some (.inl (v3, v4 + 1))) else (some (.inl (v4, v4 + 1))))
def fX6_answer (z : MS) (a1 : Int32) : Option (Int32) :=
  if (fX6_in a1.toInt64 (0 : Int64) (4 : Int64)) = 0 then (some ((-2) : Int32)) else (pu_b1 (pu_it (fun q => fX6_answer_L19 z a1 q.1 q.2) pu_F ((0 : Int32), (1 : Int32))) fun v11 => some v11)
theorem cd_X6_answer : yX6_answer.cls = RX6 ∧ yX6_answer.cls ≠ "java/lang/invoke/MethodHandle" ∧ yX6_answer.cls ≠ "java/lang/invoke/VarHandle" ∧ (parseMethodDescriptor yX6_answer.desc).map (fun d => d.parameters.length) = some 1 := by decide +kernel
def fX6_treaty_L4 (zc1 : MS) (v2 : Int32) (v3 : Int32) : Option ((Int32 × Int32) ⊕ (Int32)) :=
  if (25 : Int32) ≤ v3 then (some (.inr (v2))) else (pu_l1 (pu_max v2 ((fX6_hasBy (v3 / 5) (v3 - v3 / 5 * 5)) + (fX6_hasBy (v3 - v3 / 5 * 5) (v3 / 5))) : Int32) fun v10 => some (.inl (v10, v3 + 1)))
def fX6_treaty (z : MS) : Option (Int32) :=
  pu_b1 (pu_it (fun q => fX6_treaty_L4 z q.1 q.2) pu_F ((0 : Int32), (0 : Int32))) fun v11 => some v11
theorem cd_X6_treaty : yX6_treaty.cls = RX6 ∧ yX6_treaty.cls ≠ "java/lang/invoke/MethodHandle" ∧ yX6_treaty.cls ≠ "java/lang/invoke/VarHandle" ∧ (parseMethodDescriptor yX6_treaty.desc).map (fun d => d.parameters.length) = some 0 := by decide +kernel
def fX6_divisor_L6 (v1 : Int64) (v2 : Int64) : Option ((Int64 × Int64) ⊕ (Int64)) :=
  if (lg_cmp v2 0) = 0 then (some (.inr (v1))) else (pu_zl v2 (pu_l1 (v1 - v1 / v2 * v2 : Int64) fun v10 => some (.inl (v2, v10))))
def fX6_divisor (a1 : Int64) (a2 : Int64) : Option (Int64) :=
  pu_b1 (pu_it (fun q => fX6_divisor_L6 q.1 q.2) pu_F (a1, a2)) fun v11 => some v11
theorem cd_X6_divisor : yX6_divisor.cls ≠ "java/lang/invoke/MethodHandle" ∧ yX6_divisor.cls ≠ "java/lang/invoke/VarHandle" ∧ (parseMethodDescriptor yX6_divisor.desc).map (fun d => d.parameters.length) = some 2 := by decide +kernel
def fX6_startWeights_L2 (v1 : Int32) (z2 : MS) : Option ((Int32 × MS) ⊕ (MS)) :=
  if (1300 : Int32) ≤ v1 then (some (.inr (z2))) else (pu_g v1 1300 (let z10 := msl z2 35 v1 0; some (.inl (v1 + 1, z10))))
def fX6_startWeights (z : MS) : Option (MS) :=
  pu_b1 (pu_it (fun q => fX6_startWeights_L2 q.1 q.2) pu_F ((0 : Int32), z)) fun z11 => pu_g ((ma z11 1 (0 : Int32).toNatClampNeg) + (ma z11 15 (0 : Int32).toNatClampNeg)) 1300 (let z13 := msl z11 35 ((ma z11 1 (0 : Int32).toNatClampNeg) + (ma z11 15 (0 : Int32).toNatClampNeg)) 1; some z13)
theorem cd_X6_startWeights : yX6_startWeights.cls = RX6 ∧ yX6_startWeights.cls ≠ "java/lang/invoke/MethodHandle" ∧ yX6_startWeights.cls ≠ "java/lang/invoke/VarHandle" ∧ (parseMethodDescriptor yX6_startWeights.desc).map (fun d => d.parameters.length) = some 0 := by decide +kernel
def fX6_stepWeights_L2 (p1 : Int32) (v2 : Int32) (z3 : MS) : Option ((Int32 × MS) ⊕ (MS)) :=
  if (1300 : Int32) ≤ v2 then (some (.inr (z3))) else (pu_g v2 1300 (let z11 := msl z3 36 v2 0; some (.inl (v2 + 1, z11))))
def fX6_stepWeights_L24 (p13 : Int32) (v14 : Int32) (z15 : MS) : Option ((Int32 × MS) ⊕ (MS)) :=
  if (1300 : Int32) ≤ v14 then (some (.inr (z15))) else (pu_g v14 1300 (if (lg_cmp (ml z15 35 v14.toNatClampNeg) 0) = 0 then (some (.inl (v14 + 1, z15))) else (pu_g p13 61 (pu_l1 ((pu_max (0 : Int32) (v14 - 1)) + (ma z15 15 p13.toNatClampNeg) : Int32) fun v24 => pu_g v24 1300 (pu_g v14 1300 (pu_g v24 1300 (let z28 := msl z15 36 v24 ((ml z15 36 v24.toNatClampNeg) + ((ml z15 35 v14.toNatClampNeg) * ((10 - (ma z15 1 (1 : Int32).toNatClampNeg) : Int32).toInt64))); pu_g (v24 + (ma z28 1 (2 : Int32).toNatClampNeg)) 1300 (pu_g v14 1300 (pu_g (v24 + (ma z28 1 (2 : Int32).toNatClampNeg)) 1300 (let z32 := msl z28 36 (v24 + (ma z28 1 (2 : Int32).toNatClampNeg)) ((ml z28 36 (v24 + (ma z28 1 (2 : Int32).toNatClampNeg) : Int32).toNatClampNeg) + ((ml z28 35 v14.toNatClampNeg) * ((ma z28 1 (1 : Int32).toNatClampNeg : Int32).toInt64))); some (.inl (v14 + 1, z32))))))))))))
def fX6_stepWeights_L124 (v34 : Int32) (z35 : MS) : Option ((Int32 × MS) ⊕ (MS)) :=
  if (1300 : Int32) ≤ v34 then (some (.inr (z35))) else (pu_g v34 1300 (pu_g v34 1300 (let z44 := msl z35 35 v34 (ml z35 36 v34.toNatClampNeg); some (.inl (v34 + 1, z44)))))
def fX6_stepWeights (z : MS) (a1 : Int32) : Option (MS) :=
  pu_b1 (pu_it (fun q => fX6_stepWeights_L2 a1 q.1 q.2) pu_F ((0 : Int32), z)) fun z12 => pu_b1 (pu_it (fun q => fX6_stepWeights_L24 a1 q.1 q.2) pu_F ((0 : Int32), z12)) fun z33 => pu_b1 (pu_it (fun q => fX6_stepWeights_L124 q.1 q.2) pu_F ((0 : Int32), z33)) fun z45 => some z45
theorem cd_X6_stepWeights : yX6_stepWeights.cls = RX6 ∧ yX6_stepWeights.cls ≠ "java/lang/invoke/MethodHandle" ∧ yX6_stepWeights.cls ≠ "java/lang/invoke/VarHandle" ∧ (parseMethodDescriptor yX6_stepWeights.desc).map (fun d => d.parameters.length) = some 1 := by decide +kernel
def fX6_weightFrom_L5 (zc2 : MS) (p1 : Int32) (v3 : Int64) (v4 : Int32) : Option ((Int64 × Int32) ⊕ (Int64)) :=
  if p1 ≤ v4 then (some (.inr (v3))) else (pu_g v4 1300 (pu_l1 (v3 + (ml zc2 35 v4.toNatClampNeg) : Int64) fun v12 => some (.inl (v12, v4 + 1))))
def fX6_weightFrom (z : MS) (a1 : Int32) (a2 : Int32) : Option (Int64) :=
  pu_b1 (pu_it (fun q => fX6_weightFrom_L5 z a2 q.1 q.2) pu_F ((0 : Int64), a1)) fun v13 => some v13
theorem cd_X6_weightFrom : yX6_weightFrom.cls = RX6 ∧ yX6_weightFrom.cls ≠ "java/lang/invoke/MethodHandle" ∧ yX6_weightFrom.cls ≠ "java/lang/invoke/VarHandle" ∧ (parseMethodDescriptor yX6_weightFrom.desc).map (fun d => d.parameters.length) = some 2 := by decide +kernel
def fX6_chance_L52 (p6 : Int32) (p7 : Int32) (p8 : Int32) (v9 : Int32) (z10 : MS) : Option ((Int32 × MS) ⊕ (MS)) :=
  if p6 < v9 then (some (.inr (z10))) else (pu_b1 (fX6_stepWeights z10 v9) fun z17 => some (.inl (v9 + 1, z17)))
def fX6_chance (z : MS) (a1 : Int32) (a2 : Int32) (a3 : Int32) : Option (Int64 × MS) :=
  pu_b2 (fX6_asksRivers z) fun v1 z2 => if v1 = 0 then (some (((-2) : Int64), z2)) else (if (fX6_in a1.toInt64 (0 : Int64) (14 : Int64)) = 0 then (some (((-2) : Int64), z2)) else (if (fX6_in a2.toInt64 (0 : Int64) (99 : Int64)) = 0 then (some (((-2) : Int64), z2)) else (if (fX6_in a3.toInt64 (0 : Int64) (1 : Int64)) = 0 then (some (((-2) : Int64), z2)) else (pu_b1 (fX6_startWeights z2) fun z4 => pu_b1 (pu_it (fun q => fX6_chance_L52 a1 a2 a3 q.1 q.2) pu_F ((1 : Int32), z4)) fun z19 => pu_b1 (fX6_weightFrom z19 a2 (1300 : Int32)) fun v20 => pu_b1 (fX6_weightFrom z19 (0 : Int32) (1300 : Int32)) fun v22 => if a3 = 0 then (pu_b1 (fX6_divisor v20 v22) fun v27 => pu_zl v27 (some (v20 / v27, z19))) else (pu_b1 (fX6_divisor v20 v22) fun v24 => pu_zl v24 (some (v22 / v24, z19)))))))
theorem cd_X6_chance : yX6_chance.cls = RX6 ∧ yX6_chance.cls ≠ "java/lang/invoke/MethodHandle" ∧ yX6_chance.cls ≠ "java/lang/invoke/VarHandle" ∧ (parseMethodDescriptor yX6_chance.desc).map (fun d => d.parameters.length) = some 3 := by decide +kernel
def fX6_mean_L39 (p6 : Int32) (p7 : Int32) (v8 : Int32) (z9 : MS) : Option ((Int32 × MS) ⊕ (MS)) :=
  if p6 < v8 then (some (.inr (z9))) else (pu_b1 (fX6_stepWeights z9 v8) fun z16 => some (.inl (v8 + 1, z16)))
def fX6_mean_L60 (zc20 : MS) (p19 : Int32) (v21 : Int64) (v22 : Int32) : Option ((Int64 × Int32) ⊕ (Int64)) :=
  if (1300 : Int32) ≤ v22 then (some (.inr (v21))) else (pu_g v22 1300 (pu_l1 (v21 + (v22.toInt64 * (ml zc20 35 v22.toNatClampNeg)) : Int64) fun v30 => some (.inl (v30, v22 + 1))))
def fX6_mean (z : MS) (a1 : Int32) (a2 : Int32) : Option (Int64 × MS) :=
  pu_b2 (fX6_asksRivers z) fun v1 z2 => if v1 = 0 then (some (((-2) : Int64), z2)) else (if (fX6_in a1.toInt64 (0 : Int64) (14 : Int64)) = 0 then (some (((-2) : Int64), z2)) else (if (fX6_in a2.toInt64 (0 : Int64) (1 : Int64)) = 0 then (some (((-2) : Int64), z2)) else (pu_b1 (fX6_startWeights z2) fun z4 => pu_b1 (pu_it (fun q => fX6_mean_L39 a1 a2 q.1 q.2) pu_F ((1 : Int32), z4)) fun z18 => pu_b1 (pu_it (fun q => fX6_mean_L60 z18 a2 q.1 q.2) pu_F ((0 : Int64), (0 : Int32))) fun v31 => pu_b1 (fX6_weightFrom z18 (0 : Int32) (1300 : Int32)) fun v32 => if a2 = 0 then (pu_b1 (fX6_divisor v31 v32) fun v37 => pu_zl v37 (some (v31 / v37, z18))) else (pu_b1 (fX6_divisor v31 v32) fun v34 => pu_zl v34 (some (v32 / v34, z18))))))
theorem cd_X6_mean : yX6_mean.cls = RX6 ∧ yX6_mean.cls ≠ "java/lang/invoke/MethodHandle" ∧ yX6_mean.cls ≠ "java/lang/invoke/VarHandle" ∧ (parseMethodDescriptor yX6_mean.desc).map (fun d => d.parameters.length) = some 2 := by decide +kernel
def fX6_risk_L29 (p6 : Int32) (p7 : Int32) (v8 : Int32) (z9 : MS) : Option ((Int32 × MS) ⊕ ((MS) ⊕ (Int32 × MS))) :=
  if (14 : Int32) < v8 then (some (.inr (.inl (z9)))) else (pu_b1 (if v8 ≤ 0 then (some z9) else (pu_b1 (fX6_stepWeights z9 v8) fun z25 => some z25) : Option (MS)) fun z16 => pu_b1 (fX6_of z16 p6 (2 : Int32)) fun v19 => pu_b1 (fX6_weightFrom z16 (0 : Int32) v19) fun v21 => pu_b1 (fX6_weightFrom z16 (0 : Int32) (1300 : Int32)) fun v23 => if (lg_cmp (100 * v21) (p7.toInt64 * v23)) < 0 then (some (.inl (v8 + 1, z16))) else (some (.inr (.inr (v8, z16)))))
def fX6_risk (z : MS) (a1 : Int32) (a2 : Int32) : Option (Int32 × MS) :=
  pu_b2 (fX6_asksReach z a1) fun v1 z2 => if v1 = 0 then (some (((-2) : Int32), z2)) else (if (fX6_in a2.toInt64 (0 : Int64) (100 : Int64)) = 0 then (some (((-2) : Int32), z2)) else (pu_b1 (fX6_startWeights z2) fun z4 => pu_s (pu_it (fun q => fX6_risk_L29 a1 a2 q.1 q.2) pu_F ((0 : Int32), z4)) fun ex => pu_l1 ex fun z27 => some (((-1) : Int32), z27)))
theorem cd_X6_risk : yX6_risk.cls = RX6 ∧ yX6_risk.cls ≠ "java/lang/invoke/MethodHandle" ∧ yX6_risk.cls ≠ "java/lang/invoke/VarHandle" ∧ (parseMethodDescriptor yX6_risk.desc).map (fun d => d.parameters.length) = some 2 := by decide +kernel
def fX6_keepAct (z : MS) (a1 : Int32) : Option (Int32 × MS) :=
  if (ma z 1 (6 : Int32).toNatClampNeg) = 30 then (some (((-5) : Int32), z)) else (pu_g (68 + (ma z 1 (6 : Int32).toNatClampNeg)) 98 (let z2 := msa z 1 (68 + (ma z 1 (6 : Int32).toNatClampNeg)) a1; let z3 := msa z2 1 6 ((ma z2 1 (6 : Int32).toNatClampNeg) + 1); some ((0 : Int32), z3)))
theorem cd_X6_keepAct : yX6_keepAct.cls = RX6 ∧ yX6_keepAct.cls ≠ "java/lang/invoke/MethodHandle" ∧ yX6_keepAct.cls ≠ "java/lang/invoke/VarHandle" ∧ (parseMethodDescriptor yX6_keepAct.desc).map (fun d => d.parameters.length) = some 1 := by decide +kernel
def fX6_close (z : MS) (a1 : Int32) (a2 : Int32) : Option (Int32 × MS) :=
  if (fX6_isJoin z a1) = 0 then (some (((-2) : Int32), z)) else (if (fX6_in a2.toInt64 (0 : Int64) (1 : Int64)) = 0 then (some (((-2) : Int32), z)) else (pu_b1 (fX6_asItIs z) fun z1 => pu_l1 (fX6_bit (mi z1 20) a1 : Int32) fun v3 => pu_b2 (fX6_keepAct z1 ((2 * a1) + a2)) fun v4 z5 => if (0 : Int32) ≤ v4 then (some (v3, z5)) else (some (((-5) : Int32), z5))))
theorem cd_X6_close : yX6_close.cls = RX6 ∧ yX6_close.cls ≠ "java/lang/invoke/MethodHandle" ∧ yX6_close.cls ≠ "java/lang/invoke/VarHandle" ∧ (parseMethodDescriptor yX6_close.desc).map (fun d => d.parameters.length) = some 2 := by decide +kernel
def fX6_pours (z : MS) (a1 : Int32) (a2 : Int32) : Option (Int32 × MS) :=
  if (fX6_isRivers z) = 0 then (some (((-2) : Int32), z)) else (if (fX6_isStep a1.toInt64) = 0 then (some (((-2) : Int32), z)) else (if (fX6_in a2.toInt64 (1 : Int64) (30 : Int64)) = 0 then (some (((-2) : Int32), z)) else (pu_b2 (fX6_keepAct z ((100 * (a1 + 1)) + a2)) fun v1 z2 => if (0 : Int32) ≤ v1 then (pu_b1 (fX6_asItIs z2) fun z4 => pu_g a1 61 (some (ma z4 16 a1.toNatClampNeg, z4))) else (some (((-5) : Int32), z2)))))
theorem cd_X6_pours : yX6_pours.cls = RX6 ∧ yX6_pours.cls ≠ "java/lang/invoke/MethodHandle" ∧ yX6_pours.cls ≠ "java/lang/invoke/VarHandle" ∧ (parseMethodDescriptor yX6_pours.desc).map (fun d => d.parameters.length) = some 2 := by decide +kernel
def fX6_undo (z : MS) : Int32 × MS :=
  if (fX6_isRivers z) = 0 then ((((-2) : Int32), z)) else (if (ma z 1 (6 : Int32).toNatClampNeg) = 0 then ((((-5) : Int32), z)) else (let z1 := msa z 1 6 ((ma z 1 (6 : Int32).toNatClampNeg) - 1); (ma z1 1 (6 : Int32).toNatClampNeg, z1)))
theorem cd_X6_undo : yX6_undo.cls = RX6 ∧ yX6_undo.cls ≠ "java/lang/invoke/MethodHandle" ∧ yX6_undo.cls ≠ "java/lang/invoke/VarHandle" ∧ (parseMethodDescriptor yX6_undo.desc).map (fun d => d.parameters.length) = some 0 := by decide +kernel
def fX6_anew (z : MS) : Int32 × MS :=
  if (fX6_isRivers z) = 0 then ((((-2) : Int32), z)) else (pu_l1 (ma z 1 (6 : Int32).toNatClampNeg : Int32) fun v1 => let z2 := msa z 1 6 0; (v1, z2))
theorem cd_X6_anew : yX6_anew.cls = RX6 ∧ yX6_anew.cls ≠ "java/lang/invoke/MethodHandle" ∧ yX6_anew.cls ≠ "java/lang/invoke/VarHandle" ∧ (parseMethodDescriptor yX6_anew.desc).map (fun d => d.parameters.length) = some 0 := by decide +kernel
def fX6_goDrawn_L14 (v4 : Int64) (v5 : Int32) (z6 : MS) : Option ((Int64 × Int32 × MS) ⊕ (MS)) :=
  if (60 : Int32) < v5 then (some (.inr (z6))) else (pu_l1 (((1103515245 * v4) + 12345) - ((1103515245 * v4) + 12345) / 2147483648 * 2147483648 : Int64) fun v13 => if (lg_cmp ((v13 / 65536) - (v13 / 65536) / 10 * 10) ((ma z6 1 (1 : Int32).toNatClampNeg : Int32).toInt64)) < 0 then (pu_g v5 61 (pu_g v5 61 (let z16 := msa z6 15 v5 ((ma z6 15 v5.toNatClampNeg) + (ma z6 1 (2 : Int32).toNatClampNeg)); let z17 := msi z16 37 ((mi z16 37) + 1); some (.inl (v13, v5 + 1, z17))))) else (some (.inl (v13, v5 + 1, z6))))
def fX6_goDrawn (z : MS) (a1 : Int64) : Option (MS) :=
  pu_b1 (fX6_asItIs z) fun z1 => let z3 := msi z1 37 0; pu_b1 (pu_it (fun q => fX6_goDrawn_L14 q.1 q.2.1 q.2.2) pu_F (a1, (1 : Int32), z3)) fun z18 => pu_b1 (fX6_layLevels z18) fun z19 => some z19
theorem cd_X6_goDrawn : yX6_goDrawn.cls = RX6 ∧ yX6_goDrawn.cls ≠ "java/lang/invoke/MethodHandle" ∧ yX6_goDrawn.cls ≠ "java/lang/invoke/VarHandle" ∧ (parseMethodDescriptor yX6_goDrawn.desc).map (fun d => d.parameters.length) = some 1 := by decide +kernel
def fX6_isSeed (a1 : Int32) : Int32 :=
  vp_nar .boolean (fX6_in a1.toInt64 (0 : Int64) (2000000000 : Int64))
theorem cd_X6_isSeed : yX6_isSeed.cls ≠ "java/lang/invoke/MethodHandle" ∧ yX6_isSeed.cls ≠ "java/lang/invoke/VarHandle" ∧ (parseMethodDescriptor yX6_isSeed.desc).map (fun d => d.parameters.length) = some 1 := by decide +kernel
def fX6_drawn (z : MS) (a1 : Int32) (a2 : Int32) : Option (Int32 × MS) :=
  if (fX6_isRivers z) = 0 then (some (((-2) : Int32), z)) else (if (fX6_isSeed a1) = 0 then (some (((-2) : Int32), z)) else (if (fX6_in a2.toInt64 (0 : Int64) (1 : Int64)) = 0 then (some (((-2) : Int32), z)) else (pu_b1 (fX6_goDrawn z a1.toInt64) fun z1 => if a2 = 0 then (some (ma z1 16 (60 : Int32).toNatClampNeg, z1)) else (some (mi z1 37, z1)))))
theorem cd_X6_drawn : yX6_drawn.cls = RX6 ∧ yX6_drawn.cls ≠ "java/lang/invoke/MethodHandle" ∧ yX6_drawn.cls ≠ "java/lang/invoke/VarHandle" ∧ (parseMethodDescriptor yX6_drawn.desc).map (fun d => d.parameters.length) = some 2 := by decide +kernel
def fX6_luck_L37 (p1 : Int32) (p2 : Int32) (p3 : Int32) (v4 : Int32) (v5 : Int32) (z6 : MS) : Option ((Int32 × Int32 × MS) ⊕ (Int32 × MS)) :=
  if p2 ≤ v5 then (some (.inr (v4, z6))) else (pu_b1 (fX6_goDrawn z6 (p1.toInt64 + v5.toInt64)) fun z13 => pu_b2 (fX6_seaOf z13 p3 (0 : Int32)) fun v15 z16 => if (1000000000 : Int32) ≤ v15 then (pu_l1 (v4 + 0 : Int32) fun v18 => some (.inl (v18, v5 + 1, z16))) else (pu_l1 (v4 + 1 : Int32) fun v19 => some (.inl (v19, v5 + 1, z16))))
def fX6_luck (z : MS) (a1 : Int32) (a2 : Int32) (a3 : Int32) : Option (Int32 × MS) :=
  if (fX6_isSeed a1) = 0 then (some (((-2) : Int32), z)) else (if (fX6_in a2.toInt64 (1 : Int64) (20 : Int64)) = 0 then (some (((-2) : Int32), z)) else (if (fX6_isReach z a3.toInt64) = 0 then (some (((-2) : Int32), z)) else (pu_b2 (pu_it (fun q => fX6_luck_L37 a1 a2 a3 q.1 q.2.1 q.2.2) pu_F ((0 : Int32), (0 : Int32), z)) fun v20 z21 => some (v20, z21))))
theorem cd_X6_luck : yX6_luck.cls = RX6 ∧ yX6_luck.cls ≠ "java/lang/invoke/MethodHandle" ∧ yX6_luck.cls ≠ "java/lang/invoke/VarHandle" ∧ (parseMethodDescriptor yX6_luck.desc).map (fun d => d.parameters.length) = some 3 := by decide +kernel
def fX6_deepen (z : MS) (a1 : Int32) (a2 : Int32) : Option (Int32 × MS) :=
  if (fX6_isReach z a1.toInt64) = 0 then (some (((-2) : Int32), z)) else (if (fX6_in a2.toInt64 (0 : Int64) (20 : Int64)) = 0 then (some (((-2) : Int32), z)) else (if (ma z 1 (6 : Int32).toNatClampNeg) ≤ 0 then (pu_b1 (fX6_of z a1 (2 : Int32)) fun v1 => pu_g ((8 + (3 * a1)) + 2) 98 (let z4 := msa z 1 ((8 + (3 * a1)) + 2) a2; some (v1, z4))) else (some (((-5) : Int32), z))))
theorem cd_X6_deepen : yX6_deepen.cls = RX6 ∧ yX6_deepen.cls ≠ "java/lang/invoke/MethodHandle" ∧ yX6_deepen.cls ≠ "java/lang/invoke/VarHandle" ∧ (parseMethodDescriptor yX6_deepen.desc).map (fun d => d.parameters.length) = some 2 := by decide +kernel
def fX6_count_L53 (zc1 : MS) (v2 : Int32) (v3 : Int32) : Option ((Int32 × Int32) ⊕ (Int32)) :=
  if (4 : Int32) ≤ v3 then (some (.inr (v2))) else (pu_g v3 4 (if (ma zc1 38 v3.toNatClampNeg) = (-1) then (pu_l1 (v2 + 0 : Int32) fun v12 => some (.inl (v12, v3 + 1))) else (pu_l1 (v2 + 1 : Int32) fun v11 => some (.inl (v11, v3 + 1)))))
def fX6_count (z : MS) (a1 : Int32) : Option (Int32) :=
  if a1 = 0 then (some (ma z 1 (0 : Int32).toNatClampNeg)) else (if (fX6_in a1.toInt64 (1 : Int64) (7 : Int64)) = 0 then (if a1 = 8 then (some (mi z 5)) else (if a1 = 9 then (pu_b1 (pu_it (fun q => fX6_count_L53 z q.1 q.2) pu_F ((0 : Int32), (0 : Int32))) fun v13 => some v13) else (some ((-1) : Int32)))) else (pu_g a1 98 (some (ma z 1 a1.toNatClampNeg))))
theorem cd_X6_count : yX6_count.cls = RX6 ∧ yX6_count.cls ≠ "java/lang/invoke/MethodHandle" ∧ yX6_count.cls ≠ "java/lang/invoke/VarHandle" ∧ (parseMethodDescriptor yX6_count.desc).map (fun d => d.parameters.length) = some 1 := by decide +kernel
def fX6_row_L52 (p5 : Int32) (v6 : Int32) (z7 : MS) : Option ((Int32 × MS) ⊕ (MS)) :=
  if (60 : Int32) ≤ v6 then (some (.inr (z7))) else (pu_g ((60 * p5) + v6) 240 (let z15 := msl z7 40 ((60 * p5) + v6) 0; some (.inl (v6 + 1, z15))))
def fX6_row (z : MS) (a1 : Int32) (a2 : Int32) (a3 : Int32) : Option (Int32 × MS) :=
  if (fX6_isSlot a1) = 0 then (some (((-2) : Int32), z)) else (if (fX6_in a2.toInt64 (0 : Int64) (3 : Int64)) = 0 then (some (((-2) : Int32), z)) else (if a3 ≤ 60 then (if (0 : Int32) ≤ a3 then (pu_g a1 4 (let z2 := msa z 38 a1 a3; pu_g a1 4 (let z4 := msa z2 39 a1 a2; pu_b1 (pu_it (fun q => fX6_row_L52 a1 q.1 q.2) pu_F ((0 : Int32), z4)) fun z16 => some ((0 : Int32), z16)))) else (some (((-3) : Int32), z))) else (some (((-2) : Int32), z))))
theorem cd_X6_row : yX6_row.cls = RX6 ∧ yX6_row.cls ≠ "java/lang/invoke/MethodHandle" ∧ yX6_row.cls ≠ "java/lang/invoke/VarHandle" ∧ (parseMethodDescriptor yX6_row.desc).map (fun d => d.parameters.length) = some 3 := by decide +kernel
def fX6_cut (a1 : Int64) (a2 : Int32) : Int64 :=
  pu_l1 (64 - ((8 : Int32) <<< (a2 &&& 31)) : Int32) fun v1 => (a1 <<< (v1.toInt64 &&& 63) : Int64) >>> (v1.toInt64 &&& 63)
theorem cd_X6_cut : yX6_cut.cls ≠ "java/lang/invoke/MethodHandle" ∧ yX6_cut.cls ≠ "java/lang/invoke/VarHandle" ∧ (parseMethodDescriptor yX6_cut.desc).map (fun d => d.parameters.length) = some 2 := by decide +kernel
def fX6_write (z : MS) (a1 : Int32) (a2 : Int32) (a3 : Int64) : Option (Int32 × MS) :=
  if (fX6_isSlot a1) = 0 then (some (((-2) : Int32), z)) else (pu_g a1 4 (if (ma z 38 a1.toNatClampNeg) = (-1) then (some (((-6) : Int32), z)) else (pu_g a1 4 (if (fX6_in a2.toInt64 (0 : Int64) (((ma z 38 a1.toNatClampNeg) - 1 : Int32).toInt64)) = 0 then (some (((-7) : Int32), z)) else (pu_g a1 4 (pu_g ((60 * a1) + a2) 240 (let z5 := msl z 40 ((60 * a1) + a2) (fX6_cut a3 (ma z 39 a1.toNatClampNeg)); some ((0 : Int32), z5))))))))
theorem cd_X6_write : yX6_write.cls = RX6 ∧ yX6_write.cls ≠ "java/lang/invoke/MethodHandle" ∧ yX6_write.cls ≠ "java/lang/invoke/VarHandle" ∧ (parseMethodDescriptor yX6_write.desc).map (fun d => d.parameters.length) = some 3 := by decide +kernel
def fX6_paste_L113 (p7 : Int32) (p8 : Int32) (p9 : Int32) (p10 : Int32) (p11 : Int32) (v12 : Int32) (z13 : MS) : Option ((Int32 × MS) ⊕ (MS)) :=
  if p11 ≤ v12 then (some (.inr (z13))) else (pu_g (((60 * p7) + p8) + v12) 240 (pu_g v12 60 (let z22 := msl z13 41 v12 (ml z13 40 (((60 * p7) + p8) + v12 : Int32).toNatClampNeg); some (.inl (v12 + 1, z22)))))
def fX6_paste_L150 (p24 : Int32) (p25 : Int32) (p26 : Int32) (v27 : Int32) (z28 : MS) : Option ((Int32 × MS) ⊕ (MS)) :=
  if p26 ≤ v27 then (some (.inr (z28))) else (pu_g v27 60 (pu_g (((60 * p24) + p25) + v27) 240 (let z37 := msl z28 40 (((60 * p24) + p25) + v27) (ml z28 41 v27.toNatClampNeg); some (.inl (v27 + 1, z37)))))
def fX6_paste (z : MS) (a1 : Int32) (a2 : Int32) (a3 : Int32) (a4 : Int32) (a5 : Int32) : Option (Int32 × MS) :=
  if (fX6_isSlot a1) = 0 then (some (((-2) : Int32), z)) else (if (fX6_isSlot a3) = 0 then (some (((-2) : Int32), z)) else (pu_g a1 4 (if (ma z 38 a1.toNatClampNeg) = (-1) then (some (((-6) : Int32), z)) else (pu_g a3 4 (if (ma z 38 a3.toNatClampNeg) = (-1) then (some (((-6) : Int32), z)) else (pu_g a1 4 (pu_g a3 4 (if (ma z 39 a1.toNatClampNeg) = (ma z 39 a3.toNatClampNeg) then (if a2 < 0 then (some (((-7) : Int32), z)) else (if a4 < 0 then (some (((-7) : Int32), z)) else (if a5 < 0 then (some (((-7) : Int32), z)) else (pu_g a1 4 (if (0 : Int32) < (lg_cmp (a2.toInt64 + a5.toInt64) ((ma z 38 a1.toNatClampNeg : Int32).toInt64)) then (some (((-7) : Int32), z)) else (pu_g a3 4 (if (lg_cmp (a4.toInt64 + a5.toInt64) ((ma z 38 a3.toNatClampNeg : Int32).toInt64)) ≤ 0 then (pu_b1 (pu_it (fun q => fX6_paste_L113 a1 a2 a3 a4 a5 q.1 q.2) pu_F ((0 : Int32), z)) fun z23 => pu_b1 (pu_it (fun q => fX6_paste_L150 a3 a4 a5 q.1 q.2) pu_F ((0 : Int32), z23)) fun z38 => some ((0 : Int32), z38)) else (some (((-7) : Int32), z))))))))) else (some (((-8) : Int32), z))))))))))
theorem cd_X6_paste : yX6_paste.cls = RX6 ∧ yX6_paste.cls ≠ "java/lang/invoke/MethodHandle" ∧ yX6_paste.cls ≠ "java/lang/invoke/VarHandle" ∧ (parseMethodDescriptor yX6_paste.desc).map (fun d => d.parameters.length) = some 5 := by decide +kernel
def fJ15_bitCount (a1 : Int32) : Int32 :=
  pu_l1 (a1 - (((a1.toUInt32 >>> ((1 : Int32).toUInt32 &&& Int32.toUInt32 31)).toInt32) &&& 1431655765) : Int32) fun v1 => pu_l1 ((v1 &&& 858993459) + (((v1.toUInt32 >>> ((2 : Int32).toUInt32 &&& Int32.toUInt32 31)).toInt32) &&& 858993459) : Int32) fun v2 => pu_l1 ((v2 + ((v2.toUInt32 >>> ((4 : Int32).toUInt32 &&& Int32.toUInt32 31)).toInt32)) &&& 252645135 : Int32) fun v3 => pu_l1 (v3 + ((v3.toUInt32 >>> ((8 : Int32).toUInt32 &&& Int32.toUInt32 31)).toInt32) : Int32) fun v4 => pu_l1 (v4 + ((v4.toUInt32 >>> ((16 : Int32).toUInt32 &&& Int32.toUInt32 31)).toInt32) : Int32) fun v5 => v5 &&& 63
theorem cd_J15_bitCount : yJ15_bitCount.cls ≠ "java/lang/invoke/MethodHandle" ∧ yJ15_bitCount.cls ≠ "java/lang/invoke/VarHandle" ∧ (parseMethodDescriptor yJ15_bitCount.desc).map (fun d => d.parameters.length) = some 1 := by decide +kernel
def fX0_in (a1 : Int64) (a2 : Int64) (a3 : Int64) : Int32 :=
  if (lg_cmp a1 a2) < 0 then ((0 : Int32)) else (if (0 : Int32) < (lg_cmp a1 a3) then ((0 : Int32)) else ((1 : Int32)))
theorem cd_X0_in : yX0_in.cls ≠ "java/lang/invoke/MethodHandle" ∧ yX0_in.cls ≠ "java/lang/invoke/VarHandle" ∧ (parseMethodDescriptor yX0_in.desc).map (fun d => d.parameters.length) = some 3 := by decide +kernel
def fX0_isSlot (a1 : Int32) : Int32 :=
  vp_nar .boolean (fX0_in a1.toInt64 (0 : Int64) (3 : Int64))
theorem cd_X0_isSlot : yX0_isSlot.cls ≠ "java/lang/invoke/MethodHandle" ∧ yX0_isSlot.cls ≠ "java/lang/invoke/VarHandle" ∧ (parseMethodDescriptor yX0_isSlot.desc).map (fun d => d.parameters.length) = some 1 := by decide +kernel
def fX0_end (p : PS) (z : MS) (a1 : Int32) : Int32 × MS :=
  if (fX0_in a1.toInt64 (0 : Int64) ((mi z 0 : Int32).toInt64)) = 0 then ((((-1) : Int32), z)) else (let z1 := msi z 0 a1; (a1, z1))
theorem cd_X0_end : yX0_end.cls = RX0 ∧ yX0_end.cls ≠ "java/lang/invoke/MethodHandle" ∧ yX0_end.cls ≠ "java/lang/invoke/VarHandle" ∧ (parseMethodDescriptor yX0_end.desc).map (fun d => d.parameters.length) = some 1 := by decide +kernel
def fX0_fault (p : PS) (z : MS) (a1 : Int32) : Int32 :=
  if a1 = 0 then (mi z 1) else (if a1 = 1 then (mi z 2) else (((-1) : Int32)))
theorem cd_X0_fault : yX0_fault.cls = RX0 ∧ yX0_fault.cls ≠ "java/lang/invoke/MethodHandle" ∧ yX0_fault.cls ≠ "java/lang/invoke/VarHandle" ∧ (parseMethodDescriptor yX0_fault.desc).map (fun d => d.parameters.length) = some 1 := by decide +kernel
def fX0_reaches (p : PS) (z : MS) : Int32 :=
  pw p 3
theorem cd_X0_reaches : yX0_reaches.cls = RX0 ∧ yX0_reaches.cls ≠ "java/lang/invoke/MethodHandle" ∧ yX0_reaches.cls ≠ "java/lang/invoke/VarHandle" ∧ (parseMethodDescriptor yX0_reaches.desc).map (fun d => d.parameters.length) = some 0 := by decide +kernel
def fX0_isReach (p : PS) (z : MS) (a1 : Int64) : Int32 :=
  vp_nar .boolean (fX0_in a1 (0 : Int64) (((fX0_reaches p z) - 1 : Int32).toInt64))
theorem cd_X0_isReach : yX0_isReach.cls = RX0 ∧ yX0_isReach.cls ≠ "java/lang/invoke/MethodHandle" ∧ yX0_isReach.cls ≠ "java/lang/invoke/VarHandle" ∧ (parseMethodDescriptor yX0_isReach.desc).map (fun d => d.parameters.length) = some 1 := by decide +kernel
def fX0_one (p : PS) (z : MS) (a1 : Int32) : Option (Unit) :=
  pu_g a1 (pq p 0) (some ())
theorem cd_X0_one : yX0_one.cls = RX0 ∧ yX0_one.cls ≠ "java/lang/invoke/MethodHandle" ∧ yX0_one.cls ≠ "java/lang/invoke/VarHandle" ∧ (parseMethodDescriptor yX0_one.desc).map (fun d => d.parameters.length) = some 1 := by decide +kernel
def fX0_reach (p : PS) (z : MS) (a1 : Int32) (a2 : Int32) : Option (Int32) :=
  if (fX0_isReach p z a1.toInt64) = 0 then (some ((-2) : Int32)) else (if (fX0_in a2.toInt64 (0 : Int64) (2 : Int64)) = 0 then (some ((-2) : Int32)) else (if a2 = 0 then (pu_b0 (fX0_one p z a1) (some (pw p (8 + 3 * a1.toNatClampNeg)))) else (if a2 = 1 then (pu_b0 (fX0_one p z a1) (some (pw p (9 + 3 * a1.toNatClampNeg)))) else (pu_b0 (fX0_one p z a1) (some (pw p (10 + 3 * a1.toNatClampNeg)))))))
theorem cd_X0_reach : yX0_reach.cls = RX0 ∧ yX0_reach.cls ≠ "java/lang/invoke/MethodHandle" ∧ yX0_reach.cls ≠ "java/lang/invoke/VarHandle" ∧ (parseMethodDescriptor yX0_reach.desc).map (fun d => d.parameters.length) = some 2 := by decide +kernel
def fX0_isJoin (p : PS) (z : MS) (a1 : Int32) : Int32 :=
  vp_nar .boolean (fX0_in a1.toInt64 (0 : Int64) (((pw p 4) - 1 : Int32).toInt64))
theorem cd_X0_isJoin : yX0_isJoin.cls = RX0 ∧ yX0_isJoin.cls ≠ "java/lang/invoke/MethodHandle" ∧ yX0_isJoin.cls ≠ "java/lang/invoke/VarHandle" ∧ (parseMethodDescriptor yX0_isJoin.desc).map (fun d => d.parameters.length) = some 1 := by decide +kernel
def fX0_joinOf (p : PS) (z : MS) (a1 : Int32) : Option (Unit) :=
  pu_g a1 (pq p 1) (some ())
theorem cd_X0_joinOf : yX0_joinOf.cls = RX0 ∧ yX0_joinOf.cls ≠ "java/lang/invoke/MethodHandle" ∧ yX0_joinOf.cls ≠ "java/lang/invoke/VarHandle" ∧ (parseMethodDescriptor yX0_joinOf.desc).map (fun d => d.parameters.length) = some 1 := by decide +kernel
def fX0_join (p : PS) (z : MS) (a1 : Int32) (a2 : Int32) : Option (Int32) :=
  if (fX0_isJoin p z a1) = 0 then (some ((-2) : Int32)) else (if (fX0_in a2.toInt64 (0 : Int64) (3 : Int64)) = 0 then (some ((-2) : Int32)) else (pu_b0 (fX0_joinOf p z a1) (if a2 = 0 then (some (pw p (38 + 4 * a1.toNatClampNeg))) else (if a2 = 1 then (some (pw p (39 + 4 * a1.toNatClampNeg))) else (if a2 = 2 then (some (pw p (40 + 4 * a1.toNatClampNeg))) else (some (pw p (41 + 4 * a1.toNatClampNeg))))))))
theorem cd_X0_join : yX0_join.cls = RX0 ∧ yX0_join.cls ≠ "java/lang/invoke/MethodHandle" ∧ yX0_join.cls ≠ "java/lang/invoke/VarHandle" ∧ (parseMethodDescriptor yX0_join.desc).map (fun d => d.parameters.length) = some 2 := by decide +kernel
def fX3_flows_L2 (p : PS) (v1 : Int32) (z2 : MS) : Option ((Int32 × MS) ⊕ (MS)) :=
  if (60 : Int32) < v1 then (some (.inr (z2))) else (pu_b1 (if v1 = 0 then (some (pw p 0)) else (pu_g (v1 - 1) 61 (some (pu_max (0 : Int32) ((ma z2 1 (v1 - 1 : Int32).toNatClampNeg) - 1)))) : Option (Int32)) fun v9 => pu_g v1 61 (pu_g v1 61 (let z14 := msa z2 1 v1 (v9 + (ma z2 2 v1.toNatClampNeg)); some (.inl (v1 + 1, z14)))))
def fX3_flows (p : PS) (z : MS) : Option (MS) :=
  pu_b1 (pu_it (fun q => fX3_flows_L2 p q.1 q.2) pu_F ((0 : Int32), z)) fun z16 => some z16
theorem cd_X3_flows : yX3_flows.cls = RX3 ∧ yX3_flows.cls ≠ "java/lang/invoke/MethodHandle" ∧ yX3_flows.cls ≠ "java/lang/invoke/VarHandle" ∧ (parseMethodDescriptor yX3_flows.desc).map (fun d => d.parameters.length) = some 0 := by decide +kernel
def fX3_pours_a (p : PS) (z : MS) (a1 : Nat) : Option (MS) :=
  pu_g ((pw p (68 + a1)) / 100 - 1) 61 (pu_g ((pw p (68 + a1)) / 100 - 1) 61 (let z3 := msa z 2 ((pw p (68 + a1)) / 100 - 1) ((ma z 2 ((pw p (68 + a1)) / 100 - 1 : Int32).toNatClampNeg) + ((pw p (68 + a1)) - (pw p (68 + a1)) / 100 * 100)); some z3))
theorem cd_X3_pours_a : yX3_pours.cls = RX3 ∧ yX3_pours.cls ≠ "java/lang/invoke/MethodHandle" ∧ yX3_pours.cls ≠ "java/lang/invoke/VarHandle" ∧ (parseMethodDescriptor yX3_pours.desc).map (fun d => d.parameters.length) = some 1 := by decide +kernel
def fX3_pours_r (p : PS) (z : MS) (a1 : Nat) : Option (MS) :=
  pu_g (pw p (59 + 2 * a1)) 61 (pu_g (pw p (59 + 2 * a1)) 61 (let z3 := msa z 2 (pw p (59 + 2 * a1)) ((ma z 2 (pw p (59 + 2 * a1) : Int32).toNatClampNeg) + (pw p (58 + 2 * a1))); some z3))
theorem cd_X3_pours_r : yX3_pours.cls = RX3 ∧ yX3_pours.cls ≠ "java/lang/invoke/MethodHandle" ∧ yX3_pours.cls ≠ "java/lang/invoke/VarHandle" ∧ (parseMethodDescriptor yX3_pours.desc).map (fun d => d.parameters.length) = some 1 := by decide +kernel
def fX3_is_L30 (p : PS) (v6 : Int32) (z7 : MS) : Option ((Int32 × MS) ⊕ (MS)) :=
  if (pw p 5) ≤ v6 then (some (.inr (z7))) else (pu_g v6 (pq p 2) (pu_b1 (fX3_pours_r p z7 v6.toNatClampNeg) fun z15 => some (.inl (v6 + 1, z15))))
def fX3_is_L80 (p : PS) (v18 : Int32) (z19 : MS) : Option ((Int32 × MS) ⊕ (MS)) :=
  if (pw p 6) ≤ v18 then (some (.inr (z19))) else (pu_g v18 (pq p 3) (if (100 : Int32) ≤ pw p (68 + v18.toNatClampNeg) then (pu_b1 (fX3_pours_a p z19 v18.toNatClampNeg) fun z31 => some (.inl (v18 + 1, z31))) else (if ((pw p (68 + v18.toNatClampNeg)) - (pw p (68 + v18.toNatClampNeg)) / 2 * 2) = 1 then (let z30 := msi z19 5 ((mi z19 5) ||| ((1 : Int32) <<< (((pw p (68 + v18.toNatClampNeg)) / 2 : Int32) &&& 31))); some (.inl (v18 + 1, z30))) else (let z29 := msi z19 5 ((mi z19 5) &&& (((1 : Int32) <<< (((pw p (68 + v18.toNatClampNeg)) / 2 : Int32) &&& 31)) ^^^ (-1))); some (.inl (v18 + 1, z29))))))
def fX3_is (p : PS) (z : MS) : Option (MS) :=
  let z1 := msf z 2 61 0; let z2 := msi z1 5 0; let z3 := msi z2 6 0; let z4 := msi z3 7 (-1); let z5 := msi z4 10 0; pu_b1 (pu_it (fun q => fX3_is_L30 p q.1 q.2) pu_F ((0 : Int32), z5)) fun z17 => pu_b1 (pu_it (fun q => fX3_is_L80 p q.1 q.2) pu_F ((0 : Int32), z17)) fun z33 => pu_b1 (fX3_flows p z33) fun z34 => some z34
theorem cd_X3_is : yX3_is.cls = RX3 ∧ yX3_is.cls ≠ "java/lang/invoke/MethodHandle" ∧ yX3_is.cls ≠ "java/lang/invoke/VarHandle" ∧ (parseMethodDescriptor yX3_is.desc).map (fun d => d.parameters.length) = some 0 := by decide +kernel
def fX3_isStanding (p : PS) (z : MS) (a1 : Int32) (a2 : Int32) : Option (Int32) :=
  pu_g a2 61 (pu_b0 (fX0_one p z a1) (if (pw p (10 + 3 * a1.toNatClampNeg)) ≤ (ma z 1 a2.toNatClampNeg) then (some (0 : Int32)) else (some (1 : Int32))))
theorem cd_X3_isStanding : yX3_isStanding.cls = RX3 ∧ yX3_isStanding.cls ≠ "java/lang/invoke/MethodHandle" ∧ yX3_isStanding.cls ≠ "java/lang/invoke/VarHandle" ∧ (parseMethodDescriptor yX3_isStanding.desc).map (fun d => d.parameters.length) = some 2 := by decide +kernel
def fX0_idle_L24 (p : PS) (zc4 : MS) (p3 : Int32) (v5 : Int32) (v6 : Int32) : Option ((Int32 × Int32) ⊕ (Int32)) :=
  if (60 : Int32) < v6 then (some (.inr (v5))) else (pu_b1 (fX3_isStanding p zc4 p3 v6) fun v13 => if v13 = 0 then (pu_l1 (v5 + 0 : Int32) fun v15 => some (.inl (v15, v6 + 1))) else (pu_l1 (v5 + 1 : Int32) fun v16 => some (.inl (v16, v6 + 1))))
def fX0_idle (p : PS) (z : MS) (a1 : Int32) : Option (Int32 × MS) :=
  if (fX0_isReach p z a1.toInt64) = 0 then (some (((-2) : Int32), z)) else (pu_b1 (fX3_is p z) fun z1 => pu_b1 (pu_it (fun q => fX0_idle_L24 p z1 a1 q.1 q.2) pu_F ((0 : Int32), (0 : Int32))) fun v17 => some (v17, z1))
theorem cd_X0_idle : yX0_idle.cls = RX0 ∧ yX0_idle.cls ≠ "java/lang/invoke/MethodHandle" ∧ yX0_idle.cls ≠ "java/lang/invoke/VarHandle" ∧ (parseMethodDescriptor yX0_idle.desc).map (fun d => d.parameters.length) = some 1 := by decide +kernel
def fX0_areReaches (p : PS) (z : MS) (a1 : Int32) (a2 : Int32) : Int32 :=
  if (fX0_isReach p z a1.toInt64) = 0 then ((0 : Int32)) else (if (fX0_isReach p z a2.toInt64) = 0 then ((0 : Int32)) else ((1 : Int32)))
theorem cd_X0_areReaches : yX0_areReaches.cls = RX0 ∧ yX0_areReaches.cls ≠ "java/lang/invoke/MethodHandle" ∧ yX0_areReaches.cls ≠ "java/lang/invoke/VarHandle" ∧ (parseMethodDescriptor yX0_areReaches.desc).map (fun d => d.parameters.length) = some 2 := by decide +kernel
def fX0_isOn (a1 : Int32) (a2 : Int32) : Int32 :=
  if ((a1 >>> (a2 &&& 31)) &&& 1) = 1 then ((1 : Int32)) else ((0 : Int32))
theorem cd_X0_isOn : yX0_isOn.cls ≠ "java/lang/invoke/MethodHandle" ∧ yX0_isOn.cls ≠ "java/lang/invoke/VarHandle" ∧ (parseMethodDescriptor yX0_isOn.desc).map (fun d => d.parameters.length) = some 2 := by decide +kernel
def fX3_joinFrom_L2 (p : PS) (zc3 : MS) (p1 : Int32) (p2 : Int32) (v4 : Int32) : Option ((Int32) ⊕ ((Unit) ⊕ (Int32))) :=
  if (pw p 4) ≤ v4 then (some (.inr (.inl ()))) else (if (fX0_isOn (mi zc3 5) v4) = 0 then (pu_b0 (fX0_joinOf p zc3 v4) (if (pw p (38 + 4 * v4.toNatClampNeg)) = p1 then (pu_b1 (if v4 = (mi zc3 7) then (some (mi zc3 8)) else (pu_b0 (fX0_joinOf p zc3 v4) (some (pw p (40 + 4 * v4.toNatClampNeg)))) : Option (Int32)) fun v12 => pu_z v12 (pu_b1 (if v4 = (mi zc3 7) then (some (mi zc3 9)) else (pu_b0 (fX0_joinOf p zc3 v4) (some (pw p (41 + 4 * v4.toNatClampNeg)))) : Option (Int32)) fun v16 => if (p2 - p2 / v12 * v12) = v16 then (some (.inr (.inr v4))) else (some (.inl (v4 + 1))))) else (some (.inl (v4 + 1))))) else (some (.inl (v4 + 1))))
def fX3_joinFrom (p : PS) (z : MS) (a1 : Int32) (a2 : Int32) : Option (Int32) :=
  pu_s (pu_it (fun q => fX3_joinFrom_L2 p z a1 a2 q) pu_F ((0 : Int32))) fun ex => some ((-1) : Int32)
theorem cd_X3_joinFrom : yX3_joinFrom.cls = RX3 ∧ yX3_joinFrom.cls ≠ "java/lang/invoke/MethodHandle" ∧ yX3_joinFrom.cls ≠ "java/lang/invoke/VarHandle" ∧ (parseMethodDescriptor yX3_joinFrom.desc).map (fun d => d.parameters.length) = some 2 := by decide +kernel
def fX4_isNew_o (p : PS) (z : MS) (a1 : Int32) : Int32 :=
  if a1 = (mi z 27) then ((1 : Int32)) else ((0 : Int32))
theorem cd_X4_isNew_o : yX4_isNew.cls = RX4 ∧ yX4_isNew.cls ≠ "java/lang/invoke/MethodHandle" ∧ yX4_isNew.cls ≠ "java/lang/invoke/VarHandle" ∧ (parseMethodDescriptor yX4_isNew.desc).map (fun d => d.parameters.length) = some 1 := by decide +kernel
def fX4_goes_o_L77 (p : PS) (v12 : Int32) (v13 : Int32) (v14 : Int32) (v15 : Int32) (z16 : MS) : Option ((Int32 × Int32 × Int32 × Int32 × MS) ⊕ (MS)) :=
  if (60 : Int32) < v15 then (some (.inr (z16))) else (pu_g v15 61 (let z24 := msa z16 13 v15 v13; if v13 < 10 then (pu_l1 (if (fX4_isNew_o p z24 v15) = 0 then z24 else (if (fX0_isOn v12 v13) = 0 then z24 else (if (mi z24 26) = (-1) then (let z50 := msi z24 26 v15; z50) else z24)) : MS) fun z25 => pu_l1 (v12 ||| ((1 : Int32) <<< (v13 &&& 31)) : Int32) fun v28 => pu_b1 (fX3_isStanding p z25 v13 v15) fun v29 => if v29 = 0 then (pu_b0 (fX0_one p z25 v13) (if (pw p (9 + 3 * v13.toNatClampNeg)) ≤ (v14 + 1) then (pu_b1 (fX3_joinFrom p z25 v13 v15) fun v32 => pu_b1 (if v32 = (-1) then (pu_b0 (fX0_one p z25 v13) (some (pw p (8 + 3 * v13.toNatClampNeg)))) else (pu_b0 (fX0_joinOf p z25 v32) (some (pw p (39 + 4 * v32.toNatClampNeg)))) : Option (Int32)) fun v34 => let z37 := msi z25 22 ((mi z25 22) + 1); pu_l1 (if v32 = (-1) then ((0 : Int32)) else ((1 : Int32)) : Int32) fun v38 => let z41 := msi z37 23 ((mi z37 23) + v38); pu_l1 (if v32 = (-1) then ((0 : Int32)) else ((1 : Int32) <<< (v32 &&& 31)) : Int32) fun v42 => let z45 := msi z41 25 ((mi z41 25) ||| v42); let z46 := msi z45 27 (v15 + 1); if v34 = (-1) then (some (.inl (v28, (10 : Int32), (0 : Int32), v15 + 1, z46))) else (if (fX0_isOn (mi z46 6) v34) = 0 then (some (.inl (v28, v34, (0 : Int32), v15 + 1, z46))) else (some (.inl (v28, (11 : Int32), (0 : Int32), v15 + 1, z46))))) else (some (.inl (v28, v13, v14 + 1, v15 + 1, z25))))) else (let z49 := msi z25 24 ((mi z25 24) + 1); some (.inl (v28, v13, v14, v15 + 1, z49)))) else (some (.inl (v12, v13, v14, v15 + 1, z24)))))
def fX4_goes_o (p : PS) (z : MS) (a1 : Int32) (a2 : Int32) : Option (MS) :=
  let z1 := msi z 21 a2; let z2 := msi z1 22 0; let z3 := msi z2 23 0; let z4 := msi z3 24 0; let z5 := msi z4 25 0; let z6 := msi z5 26 (-1); let z7 := msf z6 13 61 12; pu_l1 (if (fX0_isOn (mi z7 6) a1) = 0 then a1 else ((11 : Int32)) : Int32) fun v8 => let z11 := msi z7 27 a2; pu_b1 (pu_it (fun q => fX4_goes_o_L77 p q.1 q.2.1 q.2.2.1 q.2.2.2.1 q.2.2.2.2) pu_F ((0 : Int32), v8, (0 : Int32), a2, z11)) fun z51 => some z51
theorem cd_X4_goes_o : yX4_goes.cls = RX4 ∧ yX4_goes.cls ≠ "java/lang/invoke/MethodHandle" ∧ yX4_goes.cls ≠ "java/lang/invoke/VarHandle" ∧ (parseMethodDescriptor yX4_goes.desc).map (fun d => d.parameters.length) = some 2 := by decide +kernel
def fX4_isNew_s (p : PS) (z : MS) (a1 : Int32) : Int32 :=
  if a1 = (mi z 17) then ((1 : Int32)) else ((0 : Int32))
theorem cd_X4_isNew_s : yX4_isNew.cls = RX4 ∧ yX4_isNew.cls ≠ "java/lang/invoke/MethodHandle" ∧ yX4_isNew.cls ≠ "java/lang/invoke/VarHandle" ∧ (parseMethodDescriptor yX4_isNew.desc).map (fun d => d.parameters.length) = some 1 := by decide +kernel
def fX4_goes_s_L77 (p : PS) (v12 : Int32) (v13 : Int32) (v14 : Int32) (v15 : Int32) (z16 : MS) : Option ((Int32 × Int32 × Int32 × Int32 × MS) ⊕ (MS)) :=
  if (60 : Int32) < v15 then (some (.inr (z16))) else (pu_g v15 61 (let z24 := msa z16 3 v15 v13; if v13 < 10 then (pu_l1 (if (fX4_isNew_s p z24 v15) = 0 then z24 else (if (fX0_isOn v12 v13) = 0 then z24 else (if (mi z24 16) = (-1) then (let z50 := msi z24 16 v15; z50) else z24)) : MS) fun z25 => pu_l1 (v12 ||| ((1 : Int32) <<< (v13 &&& 31)) : Int32) fun v28 => pu_b1 (fX3_isStanding p z25 v13 v15) fun v29 => if v29 = 0 then (pu_b0 (fX0_one p z25 v13) (if (pw p (9 + 3 * v13.toNatClampNeg)) ≤ (v14 + 1) then (pu_b1 (fX3_joinFrom p z25 v13 v15) fun v32 => pu_b1 (if v32 = (-1) then (pu_b0 (fX0_one p z25 v13) (some (pw p (8 + 3 * v13.toNatClampNeg)))) else (pu_b0 (fX0_joinOf p z25 v32) (some (pw p (39 + 4 * v32.toNatClampNeg)))) : Option (Int32)) fun v34 => let z37 := msi z25 12 ((mi z25 12) + 1); pu_l1 (if v32 = (-1) then ((0 : Int32)) else ((1 : Int32)) : Int32) fun v38 => let z41 := msi z37 13 ((mi z37 13) + v38); pu_l1 (if v32 = (-1) then ((0 : Int32)) else ((1 : Int32) <<< (v32 &&& 31)) : Int32) fun v42 => let z45 := msi z41 15 ((mi z41 15) ||| v42); let z46 := msi z45 17 (v15 + 1); if v34 = (-1) then (some (.inl (v28, (10 : Int32), (0 : Int32), v15 + 1, z46))) else (if (fX0_isOn (mi z46 6) v34) = 0 then (some (.inl (v28, v34, (0 : Int32), v15 + 1, z46))) else (some (.inl (v28, (11 : Int32), (0 : Int32), v15 + 1, z46))))) else (some (.inl (v28, v13, v14 + 1, v15 + 1, z25))))) else (let z49 := msi z25 14 ((mi z25 14) + 1); some (.inl (v28, v13, v14, v15 + 1, z49)))) else (some (.inl (v12, v13, v14, v15 + 1, z24)))))
def fX4_goes_s (p : PS) (z : MS) (a1 : Int32) (a2 : Int32) : Option (MS) :=
  let z1 := msi z 11 a2; let z2 := msi z1 12 0; let z3 := msi z2 13 0; let z4 := msi z3 14 0; let z5 := msi z4 15 0; let z6 := msi z5 16 (-1); let z7 := msf z6 3 61 12; pu_l1 (if (fX0_isOn (mi z7 6) a1) = 0 then a1 else ((11 : Int32)) : Int32) fun v8 => let z11 := msi z7 17 a2; pu_b1 (pu_it (fun q => fX4_goes_s_L77 p q.1 q.2.1 q.2.2.1 q.2.2.2.1 q.2.2.2.2) pu_F ((0 : Int32), v8, (0 : Int32), a2, z11)) fun z51 => some z51
theorem cd_X4_goes_s : yX4_goes.cls = RX4 ∧ yX4_goes.cls ≠ "java/lang/invoke/MethodHandle" ∧ yX4_goes.cls ≠ "java/lang/invoke/VarHandle" ∧ (parseMethodDescriptor yX4_goes.desc).map (fun d => d.parameters.length) = some 2 := by decide +kernel
def fX0_put (p : PS) (z : MS) (a1 : Int32) (a2 : Int32) : Option (MS) :=
  pu_b1 (fX3_is p z) fun z1 => pu_b1 (fX4_goes_s p z1 a1 a2) fun z3 => some z3
theorem cd_X0_put : yX0_put.cls = RX0 ∧ yX0_put.cls ≠ "java/lang/invoke/MethodHandle" ∧ yX0_put.cls ≠ "java/lang/invoke/VarHandle" ∧ (parseMethodDescriptor yX0_put.desc).map (fun d => d.parameters.length) = some 2 := by decide +kernel
def fX0_alike_L34 (p : PS) (zc5 : MS) (v6 : Int32) (v7 : Int32) : Option ((Int32 × Int32) ⊕ (Int32)) :=
  if (60 : Int32) < v7 then (some (.inr (v6))) else (pu_g v7 61 (if (10 : Int32) ≤ (ma zc5 3 v7.toNatClampNeg) then (pu_l1 (v6 + 0 : Int32) fun v15 => some (.inl (v15, v7 + 1))) else (pu_g v7 61 (pu_g v7 61 (if (ma zc5 3 v7.toNatClampNeg) = (ma zc5 13 v7.toNatClampNeg) then (pu_l1 (v6 + 1 : Int32) fun v19 => some (.inl (v19, v7 + 1))) else (pu_l1 (v6 + 0 : Int32) fun v18 => some (.inl (v18, v7 + 1))))))))
def fX0_alike (p : PS) (z : MS) (a1 : Int32) (a2 : Int32) : Option (Int32 × MS) :=
  if (fX0_areReaches p z a1 a2) = 0 then (some (((-2) : Int32), z)) else (pu_b1 (fX0_put p z a1 (0 : Int32)) fun z1 => pu_b1 (fX4_goes_o p z1 a2 (0 : Int32)) fun z3 => pu_b1 (pu_it (fun q => fX0_alike_L34 p z3 q.1 q.2) pu_F ((0 : Int32), (0 : Int32))) fun v20 => some (v20, z3))
theorem cd_X0_alike : yX0_alike.cls = RX0 ∧ yX0_alike.cls ≠ "java/lang/invoke/MethodHandle" ∧ yX0_alike.cls ≠ "java/lang/invoke/VarHandle" ∧ (parseMethodDescriptor yX0_alike.desc).map (fun d => d.parameters.length) = some 2 := by decide +kernel
def fX0_isStep (p : PS) (z : MS) (a1 : Int64) : Int32 :=
  if (fX2_is p) = 0 then ((0 : Int32)) else (if (fX0_in a1 (0 : Int64) (60 : Int64)) = 0 then ((0 : Int32)) else ((1 : Int32)))
theorem cd_X0_isStep : yX0_isStep.cls = RX0 ∧ yX0_isStep.cls ≠ "java/lang/invoke/MethodHandle" ∧ yX0_isStep.cls ≠ "java/lang/invoke/VarHandle" ∧ (parseMethodDescriptor yX0_isStep.desc).map (fun d => d.parameters.length) = some 1 := by decide +kernel
def fX0_isStick (p : PS) (z : MS) (a1 : Int32) (a2 : Int32) : Int32 :=
  if (fX0_isReach p z a1.toInt64) = 0 then ((0 : Int32)) else (if (fX0_isStep p z a2.toInt64) = 0 then ((0 : Int32)) else ((1 : Int32)))
theorem cd_X0_isStick : yX0_isStick.cls = RX0 ∧ yX0_isStick.cls ≠ "java/lang/invoke/MethodHandle" ∧ yX0_isStick.cls ≠ "java/lang/invoke/VarHandle" ∧ (parseMethodDescriptor yX0_isStick.desc).map (fun d => d.parameters.length) = some 2 := by decide +kernel
def fX0_from_L17 (p : PS) (p1 : Int32) (p2 : Int32) (v3 : Int32) (v4 : Int32) (z5 : MS) : Option ((Int32 × Int32 × MS) ⊕ (Int32 × MS)) :=
  if (fX0_reaches p z5) ≤ v4 then (some (.inr (v3, z5))) else (pu_b1 (fX0_put p z5 v4 (0 : Int32)) fun z12 => pu_g p2 61 (if (ma z12 3 p2.toNatClampNeg) = p1 then (pu_l1 (v3 ||| ((1 : Int32) <<< (v4 &&& 31)) : Int32) fun v16 => some (.inl (v16, v4 + 1, z12))) else (pu_l1 (v3 ||| 0 : Int32) fun v15 => some (.inl (v15, v4 + 1, z12)))))
def fX0_from (p : PS) (z : MS) (a1 : Int32) (a2 : Int32) : Option (Int32 × MS) :=
  if (fX0_isStick p z a1 a2) = 0 then (some (((-2) : Int32), z)) else (pu_b2 (pu_it (fun q => fX0_from_L17 p a1 a2 q.1 q.2.1 q.2.2) pu_F ((0 : Int32), (0 : Int32), z)) fun v17 z18 => some (v17, z18))
theorem cd_X0_from : yX0_from.cls = RX0 ∧ yX0_from.cls ≠ "java/lang/invoke/MethodHandle" ∧ yX0_from.cls ≠ "java/lang/invoke/VarHandle" ∧ (parseMethodDescriptor yX0_from.desc).map (fun d => d.parameters.length) = some 2 := by decide +kernel
def fX0_size (a1 : Int32) : Int32 :=
  fJ15_bitCount a1
theorem cd_X0_size : yX0_size.cls ≠ "java/lang/invoke/MethodHandle" ∧ yX0_size.cls ≠ "java/lang/invoke/VarHandle" ∧ (parseMethodDescriptor yX0_size.desc).map (fun d => d.parameters.length) = some 1 := by decide +kernel
def fX0_busy_L19 (p : PS) (p1 : Int32) (v2 : Int32) (v3 : Int32) (v4 : Int32) (z5 : MS) : Option ((Int32 × Int32 × Int32 × MS) ⊕ (Int32 × MS)) :=
  if (fX0_reaches p z5) ≤ v4 then (some (.inr (v2, z5))) else (pu_b2 (fX0_from p z5 v4 p1) fun v12 z13 => pu_l1 (fX0_size v12 : Int32) fun v15 => if v3 < v15 then (some (.inl (v4, v15, v4 + 1, z13))) else (some (.inl (v2, v3, v4 + 1, z13))))
def fX0_busy (p : PS) (z : MS) (a1 : Int32) : Option (Int32 × MS) :=
  if (fX0_isStep p z a1.toInt64) = 0 then (some (((-2) : Int32), z)) else (pu_b2 (pu_it (fun q => fX0_busy_L19 p a1 q.1 q.2.1 q.2.2.1 q.2.2.2) pu_F (((-1) : Int32), (0 : Int32), (0 : Int32), z)) fun v16 z17 => some (v16, z17))
theorem cd_X0_busy : yX0_busy.cls = RX0 ∧ yX0_busy.cls ≠ "java/lang/invoke/MethodHandle" ∧ yX0_busy.cls ≠ "java/lang/invoke/VarHandle" ∧ (parseMethodDescriptor yX0_busy.desc).map (fun d => d.parameters.length) = some 1 := by decide +kernel
def fX0_stands_L24 (p : PS) (zc4 : MS) (p3 : Int32) (v5 : Int32) (v6 : Int32) : Option ((Int32 × Int32) ⊕ (Int32)) :=
  if (fX0_reaches p zc4) ≤ v6 then (some (.inr (v5))) else (pu_b1 (fX3_isStanding p zc4 v6 p3) fun v13 => if v13 = 0 then (pu_l1 (v5 ||| 0 : Int32) fun v15 => some (.inl (v15, v6 + 1))) else (pu_l1 (v5 ||| ((1 : Int32) <<< (v6 &&& 31)) : Int32) fun v16 => some (.inl (v16, v6 + 1))))
def fX0_stands (p : PS) (z : MS) (a1 : Int32) : Option (Int32 × MS) :=
  if (fX0_isStep p z a1.toInt64) = 0 then (some (((-2) : Int32), z)) else (pu_b1 (fX3_is p z) fun z1 => pu_b1 (pu_it (fun q => fX0_stands_L24 p z1 a1 q.1 q.2) pu_F ((0 : Int32), (0 : Int32))) fun v17 => some (v17, z1))
theorem cd_X0_stands : yX0_stands.cls = RX0 ∧ yX0_stands.cls ≠ "java/lang/invoke/MethodHandle" ∧ yX0_stands.cls ≠ "java/lang/invoke/VarHandle" ∧ (parseMethodDescriptor yX0_stands.desc).map (fun d => d.parameters.length) = some 1 := by decide +kernel
def fX0_flows (p : PS) (z : MS) (a1 : Int32) : Option (Int32 × MS) :=
  pu_b2 (fX0_stands p z a1) fun v1 z2 => if v1 = (-2) then (some (((-2) : Int32), z2)) else (some ((((1 : Int32) <<< ((fX0_reaches p z2 : Int32) &&& 31)) - 1) &&& (v1 ^^^ (-1)), z2))
theorem cd_X0_flows : yX0_flows.cls = RX0 ∧ yX0_flows.cls ≠ "java/lang/invoke/MethodHandle" ∧ yX0_flows.cls ≠ "java/lang/invoke/VarHandle" ∧ (parseMethodDescriptor yX0_flows.desc).map (fun d => d.parameters.length) = some 1 := by decide +kernel
def fX0_mouths_L17 (p : PS) (zc1 : MS) (v2 : Int32) (v3 : Int32) : Option ((Int32 × Int32) ⊕ (Int32)) :=
  if (fX0_reaches p zc1) ≤ v3 then (some (.inr (v2))) else (pu_b0 (fX0_one p zc1 v3) (if (pw p (8 + 3 * v3.toNatClampNeg)) = (-1) then (pu_l1 (v2 ||| ((1 : Int32) <<< (v3 &&& 31)) : Int32) fun v12 => some (.inl (v12, v3 + 1))) else (pu_l1 (v2 ||| 0 : Int32) fun v11 => some (.inl (v11, v3 + 1)))))
def fX0_mouths (p : PS) (z : MS) : Option (Int32) :=
  if (fX2_is p) = 0 then (some ((-2) : Int32)) else (pu_b1 (pu_it (fun q => fX0_mouths_L17 p z q.1 q.2) pu_F ((0 : Int32), (0 : Int32))) fun v13 => some v13)
theorem cd_X0_mouths : yX0_mouths.cls = RX0 ∧ yX0_mouths.cls ≠ "java/lang/invoke/MethodHandle" ∧ yX0_mouths.cls ≠ "java/lang/invoke/VarHandle" ∧ (parseMethodDescriptor yX0_mouths.desc).map (fun d => d.parameters.length) = some 0 := by decide +kernel
def fX0_springs_L24 (p : PS) (zc2 : MS) (v3 : Int32) (v4 : Int32) : Option ((Int32 × Int32) ⊕ (Int32)) :=
  if (fX0_reaches p zc2) ≤ v4 then (some (.inr (v3))) else (pu_b0 (fX0_one p zc2 v4) (if (pw p (8 + 3 * v4.toNatClampNeg)) = (-1) then (pu_l1 (v3 &&& v3 : Int32) fun v14 => some (.inl (v14, v4 + 1))) else (pu_b0 (fX0_one p zc2 v4) (pu_l1 (v3 &&& (((1 : Int32) <<< ((pw p (8 + 3 * v4.toNatClampNeg) : Int32) &&& 31)) ^^^ (-1)) : Int32) fun v13 => some (.inl (v13, v4 + 1))))))
def fX0_springs_L71 (p : PS) (zc16 : MS) (v17 : Int32) (v18 : Int32) : Option ((Int32 × Int32) ⊕ (Int32)) :=
  if (pw p 4) ≤ v18 then (some (.inr (v17))) else (pu_b0 (fX0_joinOf p zc16 v18) (pu_l1 (v17 &&& (((1 : Int32) <<< ((pw p (39 + 4 * v18.toNatClampNeg) : Int32) &&& 31)) ^^^ (-1)) : Int32) fun v26 => some (.inl (v26, v18 + 1))))
def fX0_springs (p : PS) (z : MS) : Option (Int32) :=
  if (fX2_is p) = 0 then (some ((-2) : Int32)) else (pu_l1 (((1 : Int32) <<< ((fX0_reaches p z : Int32) &&& 31)) - 1 : Int32) fun v1 => pu_b1 (pu_it (fun q => fX0_springs_L24 p z q.1 q.2) pu_F (v1, (0 : Int32))) fun v15 => pu_b1 (pu_it (fun q => fX0_springs_L71 p z q.1 q.2) pu_F (v15, (0 : Int32))) fun v27 => some v27)
theorem cd_X0_springs : yX0_springs.cls = RX0 ∧ yX0_springs.cls ≠ "java/lang/invoke/MethodHandle" ∧ yX0_springs.cls ≠ "java/lang/invoke/VarHandle" ∧ (parseMethodDescriptor yX0_springs.desc).map (fun d => d.parameters.length) = some 0 := by decide +kernel
def fX0_depthOf_L4 (p : PS) (zc1 : MS) (v2 : Int32) (v3 : Int32) : Option ((Int32 × Int32) ⊕ (Int32 × Int32)) :=
  if v3 = (-1) then (some (.inr (v2, v3))) else (if (10 : Int32) < v2 then (some (.inr (v2, v3))) else (pu_b0 (fX0_one p zc1 v3) (pu_l1 (pw p (8 + 3 * v3.toNatClampNeg) : Int32) fun v11 => some (.inl (v2 + 1, v11)))))
def fX0_depthOf (p : PS) (z : MS) (a1 : Int32) : Option (Int32) :=
  pu_b2 (pu_it (fun q => fX0_depthOf_L4 p z q.1 q.2) pu_F ((0 : Int32), a1)) fun v12 v13 => if v13 = (-1) then (some v12) else (some ((-1) : Int32))
theorem cd_X0_depthOf : yX0_depthOf.cls = RX0 ∧ yX0_depthOf.cls ≠ "java/lang/invoke/MethodHandle" ∧ yX0_depthOf.cls ≠ "java/lang/invoke/VarHandle" ∧ (parseMethodDescriptor yX0_depthOf.desc).map (fun d => d.parameters.length) = some 1 := by decide +kernel
def fX0_depth (p : PS) (z : MS) (a1 : Int32) : Option (Int32) :=
  if (fX0_isReach p z a1.toInt64) = 0 then (some ((-2) : Int32)) else (pu_b1 (fX0_depthOf p z a1) fun v1 => some v1)
theorem cd_X0_depth : yX0_depth.cls = RX0 ∧ yX0_depth.cls ≠ "java/lang/invoke/MethodHandle" ∧ yX0_depth.cls ≠ "java/lang/invoke/VarHandle" ∧ (parseMethodDescriptor yX0_depth.desc).map (fun d => d.parameters.length) = some 1 := by decide +kernel
def fX0_rings_L37 (p : PS) (zc14 : MS) (p12 : Int32) (p13 : Int32) (v15 : Int32) (v16 : Int32) : Option ((Int32 × Int32) ⊕ (Int32)) :=
  if (10 : Int32) ≤ v16 then (some (.inr (v15))) else (if v15 = (-1) then (some (.inr (v15))) else (if v15 = p13 then (some (.inr (v15))) else (pu_b0 (fX0_one p zc14 v15) (pu_l1 (pw p (8 + 3 * v15.toNatClampNeg) : Int32) fun v24 => some (.inl (v24, v16 + 1))))))
def fX0_rings_L17 (p : PS) (zc1 : MS) (v2 : Int32) (v3 : Int32) : Option ((Int32 × Int32) ⊕ (Int32)) :=
  if (fX0_reaches p zc1) ≤ v3 then (some (.inr (v2))) else (pu_b0 (fX0_one p zc1 v3) (pu_l1 (pw p (8 + 3 * v3.toNatClampNeg) : Int32) fun v11 => pu_b1 (pu_it (fun q => fX0_rings_L37 p zc1 v2 v3 q.1 q.2) pu_F (v11, (0 : Int32))) fun v25 => if v25 = v3 then (pu_l1 (v2 ||| ((1 : Int32) <<< (v3 &&& 31)) : Int32) fun v27 => some (.inl (v27, v3 + 1))) else (pu_l1 (v2 ||| 0 : Int32) fun v26 => some (.inl (v26, v3 + 1)))))
def fX0_rings (p : PS) (z : MS) : Option (Int32) :=
  if (fX2_is p) = 0 then (some ((-2) : Int32)) else (pu_b1 (pu_it (fun q => fX0_rings_L17 p z q.1 q.2) pu_F ((0 : Int32), (0 : Int32))) fun v28 => some v28)
theorem cd_X0_rings : yX0_rings.cls = RX0 ∧ yX0_rings.cls ≠ "java/lang/invoke/MethodHandle" ∧ yX0_rings.cls ≠ "java/lang/invoke/VarHandle" ∧ (parseMethodDescriptor yX0_rings.desc).map (fun d => d.parameters.length) = some 0 := by decide +kernel
def fX0_rained_L24 (p : PS) (zc4 : MS) (p3 : Int32) (v5 : Int32) (v6 : Int32) : Option ((Int32 × Int32) ⊕ (Int32)) :=
  if p3 < v6 then (some (.inr (v5))) else (pu_g v6 61 (pu_l1 (v5 + (ma zc4 2 v6.toNatClampNeg) : Int32) fun v14 => some (.inl (v14, v6 + 1))))
def fX0_rained (p : PS) (z : MS) (a1 : Int32) : Option (Int32 × MS) :=
  if (fX0_isStep p z a1.toInt64) = 0 then (some (((-2) : Int32), z)) else (pu_b1 (fX3_is p z) fun z1 => pu_b1 (pu_it (fun q => fX0_rained_L24 p z1 a1 q.1 q.2) pu_F ((0 : Int32), (0 : Int32))) fun v15 => some (v15, z1))
theorem cd_X0_rained : yX0_rained.cls = RX0 ∧ yX0_rained.cls ≠ "java/lang/invoke/MethodHandle" ∧ yX0_rained.cls ≠ "java/lang/invoke/VarHandle" ∧ (parseMethodDescriptor yX0_rained.desc).map (fun d => d.parameters.length) = some 1 := by decide +kernel
def fX0_lowest_L25 (p : PS) (zc3 : MS) (v4 : Int32) (v5 : Int32) : Option ((Int32 × Int32) ⊕ (Int32)) :=
  if (60 : Int32) < v5 then (some (.inr (v4))) else (pu_g v5 61 (pu_g v4 61 (if (ma zc3 1 v4.toNatClampNeg) ≤ (ma zc3 1 v5.toNatClampNeg) then (some (.inl (v4, v5 + 1))) else (some (.inl (v5, v5 + 1))))))
def fX0_lowest (p : PS) (z : MS) : Option (Int32 × MS) :=
  if (fX2_is p) = 0 then (some (((-2) : Int32), z)) else (pu_b1 (fX3_is p z) fun z1 => pu_b1 (pu_it (fun q => fX0_lowest_L25 p z1 q.1 q.2) pu_F ((0 : Int32), (1 : Int32))) fun v14 => some (v14, z1))
theorem cd_X0_lowest : yX0_lowest.cls = RX0 ∧ yX0_lowest.cls ≠ "java/lang/invoke/MethodHandle" ∧ yX0_lowest.cls ≠ "java/lang/invoke/VarHandle" ∧ (parseMethodDescriptor yX0_lowest.desc).map (fun d => d.parameters.length) = some 0 := by decide +kernel
def fX0_deeper (p : PS) (z : MS) : Option (Int32 × MS) :=
  if (fX2_is p) = 0 then (some (((-2) : Int32), z)) else (pu_b2 (fX0_lowest p z) fun v1 z2 => pu_g v1 61 (some (pu_min (20 : Int32) (ma z2 1 v1.toNatClampNeg), z2)))
theorem cd_X0_deeper : yX0_deeper.cls = RX0 ∧ yX0_deeper.cls ≠ "java/lang/invoke/MethodHandle" ∧ yX0_deeper.cls ≠ "java/lang/invoke/VarHandle" ∧ (parseMethodDescriptor yX0_deeper.desc).map (fun d => d.parameters.length) = some 0 := by decide +kernel
def fX0_goes (p : PS) (z : MS) (a1 : Int32) (a2 : Int32) : Option (Int32 × MS) :=
  if (fX0_isJoin p z a1) = 0 then (some (((-2) : Int32), z)) else (if (fX0_isStep p z a2.toInt64) = 0 then (some (((-2) : Int32), z)) else (pu_b1 (fX3_is p z) fun z1 => if (fX0_isOn (mi z1 5) a1) = 0 then (pu_b0 (fX0_joinOf p z1 a1) (pu_z (pw p (40 + 4 * a1.toNatClampNeg)) (pu_b0 (fX0_joinOf p z1 a1) (if (a2 - a2 / (pw p (40 + 4 * a1.toNatClampNeg)) * (pw p (40 + 4 * a1.toNatClampNeg))) = (pw p (41 + 4 * a1.toNatClampNeg)) then (some ((1 : Int32), z1)) else (some ((0 : Int32), z1)))))) else (some ((0 : Int32), z1))))
theorem cd_X0_goes : yX0_goes.cls = RX0 ∧ yX0_goes.cls ≠ "java/lang/invoke/MethodHandle" ∧ yX0_goes.cls ≠ "java/lang/invoke/VarHandle" ∧ (parseMethodDescriptor yX0_goes.desc).map (fun d => d.parameters.length) = some 2 := by decide +kernel
def fX0_used (p : PS) (z : MS) (a1 : Int32) (a2 : Int32) : Option (Int32 × MS) :=
  if (fX0_isStick p z a1 a2) = 0 then (some (((-2) : Int32), z)) else (pu_b1 (fX0_put p z a1 a2) fun z1 => some (mi z1 15, z1))
theorem cd_X0_used : yX0_used.cls = RX0 ∧ yX0_used.cls ≠ "java/lang/invoke/MethodHandle" ∧ yX0_used.cls ≠ "java/lang/invoke/VarHandle" ∧ (parseMethodDescriptor yX0_used.desc).map (fun d => d.parameters.length) = some 2 := by decide +kernel
def fX0_together_L24 (p : PS) (p3 : Int32) (v4 : Int32) (v5 : Int32) (z6 : MS) : Option ((Int32 × Int32 × MS) ⊕ (Int32 × MS)) :=
  if (fX0_reaches p z6) ≤ v5 then (some (.inr (v4, z6))) else (pu_b1 (fX4_goes_o p z6 v5 p3) fun z13 => if (ma z13 13 (60 : Int32).toNatClampNeg) = (ma z13 3 (60 : Int32).toNatClampNeg) then (pu_l1 (v4 ||| ((1 : Int32) <<< (v5 &&& 31)) : Int32) fun v16 => some (.inl (v16, v5 + 1, z13))) else (pu_l1 (v4 ||| 0 : Int32) fun v15 => some (.inl (v15, v5 + 1, z13))))
def fX0_together (p : PS) (z : MS) (a1 : Int32) (a2 : Int32) : Option (Int32 × MS) :=
  if (fX0_isStick p z a1 a2) = 0 then (some (((-2) : Int32), z)) else (pu_b1 (fX0_put p z a1 a2) fun z1 => pu_b2 (pu_it (fun q => fX0_together_L24 p a2 q.1 q.2.1 q.2.2) pu_F ((0 : Int32), (0 : Int32), z1)) fun v17 z18 => some (v17, z18))
theorem cd_X0_together : yX0_together.cls = RX0 ∧ yX0_together.cls ≠ "java/lang/invoke/MethodHandle" ∧ yX0_together.cls ≠ "java/lang/invoke/VarHandle" ∧ (parseMethodDescriptor yX0_together.desc).map (fun d => d.parameters.length) = some 2 := by decide +kernel
def fX0_again (p : PS) (z : MS) (a1 : Int32) (a2 : Int32) : Option (Int32 × MS) :=
  if (fX0_isStick p z a1 a2) = 0 then (some (((-2) : Int32), z)) else (pu_b1 (fX0_put p z a1 a2) fun z1 => some (mi z1 16, z1))
theorem cd_X0_again : yX0_again.cls = RX0 ∧ yX0_again.cls ≠ "java/lang/invoke/MethodHandle" ∧ yX0_again.cls ≠ "java/lang/invoke/VarHandle" ∧ (parseMethodDescriptor yX0_again.desc).map (fun d => d.parameters.length) = some 2 := by decide +kernel
def fX4_way_o_L7 (p : PS) (zc2 : MS) (v3 : Int32) (v4 : Int32) : Option ((Int32 × Int32) ⊕ (Int32)) :=
  if (60 : Int32) < v4 then (some (.inr (v3))) else (pu_g v4 61 (if (10 : Int32) ≤ (ma zc2 13 v4.toNatClampNeg) then (pu_l1 (v3 ||| 0 : Int32) fun v12 => some (.inl (v12, v4 + 1))) else (pu_g v4 61 (pu_l1 (v3 ||| ((1 : Int32) <<< ((ma zc2 13 v4.toNatClampNeg : Int32) &&& 31)) : Int32) fun v14 => some (.inl (v14, v4 + 1))))))
def fX4_way_o (p : PS) (z : MS) : Option (Int32) :=
  pu_l1 (mi z 21 : Int32) fun v1 => pu_b1 (pu_it (fun q => fX4_way_o_L7 p z q.1 q.2) pu_F ((0 : Int32), v1)) fun v15 => some v15
theorem cd_X4_way_o : yX4_way.cls = RX4 ∧ yX4_way.cls ≠ "java/lang/invoke/MethodHandle" ∧ yX4_way.cls ≠ "java/lang/invoke/VarHandle" ∧ (parseMethodDescriptor yX4_way.desc).map (fun d => d.parameters.length) = some 0 := by decide +kernel
def fX4_way_s_L7 (p : PS) (zc2 : MS) (v3 : Int32) (v4 : Int32) : Option ((Int32 × Int32) ⊕ (Int32)) :=
  if (60 : Int32) < v4 then (some (.inr (v3))) else (pu_g v4 61 (if (10 : Int32) ≤ (ma zc2 3 v4.toNatClampNeg) then (pu_l1 (v3 ||| 0 : Int32) fun v12 => some (.inl (v12, v4 + 1))) else (pu_g v4 61 (pu_l1 (v3 ||| ((1 : Int32) <<< ((ma zc2 3 v4.toNatClampNeg : Int32) &&& 31)) : Int32) fun v14 => some (.inl (v14, v4 + 1))))))
def fX4_way_s (p : PS) (z : MS) : Option (Int32) :=
  pu_l1 (mi z 11 : Int32) fun v1 => pu_b1 (pu_it (fun q => fX4_way_s_L7 p z q.1 q.2) pu_F ((0 : Int32), v1)) fun v15 => some v15
theorem cd_X4_way_s : yX4_way.cls = RX4 ∧ yX4_way.cls ≠ "java/lang/invoke/MethodHandle" ∧ yX4_way.cls ≠ "java/lang/invoke/VarHandle" ∧ (parseMethodDescriptor yX4_way.desc).map (fun d => d.parameters.length) = some 0 := by decide +kernel
def fX0_can_L16 (p : PS) (p1 : Int32) (v2 : Int32) (v3 : Int32) (z4 : MS) : Option ((Int32 × Int32 × MS) ⊕ (Int32 × MS)) :=
  if (60 : Int32) < v3 then (some (.inr (v2, z4))) else (pu_b1 (fX0_put p z4 p1 v3) fun z11 => pu_b1 (fX4_way_s p z11) fun v13 => pu_l1 (v2 ||| v13 : Int32) fun v15 => some (.inl (v15, v3 + 1, z11)))
def fX0_can (p : PS) (z : MS) (a1 : Int32) : Option (Int32 × MS) :=
  if (fX0_isReach p z a1.toInt64) = 0 then (some (((-2) : Int32), z)) else (pu_b2 (pu_it (fun q => fX0_can_L16 p a1 q.1 q.2.1 q.2.2) pu_F ((0 : Int32), (0 : Int32), z)) fun v16 z17 => some (v16, z17))
theorem cd_X0_can : yX0_can.cls = RX0 ∧ yX0_can.cls ≠ "java/lang/invoke/MethodHandle" ∧ yX0_can.cls ≠ "java/lang/invoke/VarHandle" ∧ (parseMethodDescriptor yX0_can.desc).map (fun d => d.parameters.length) = some 1 := by decide +kernel
def fX4_first_o_L5 (p : PS) (zc3 : MS) (p2 : Int32) (v4 : Int32) : Option ((Int32) ⊕ ((Unit) ⊕ (Int32))) :=
  if (60 : Int32) < v4 then (some (.inr (.inl ()))) else (pu_g v4 61 (if (ma zc3 13 v4.toNatClampNeg) = p2 then (some (.inr (.inr v4))) else (some (.inl (v4 + 1)))))
def fX4_first_o (p : PS) (z : MS) (a1 : Int32) : Option (Int32) :=
  pu_l1 (mi z 21 : Int32) fun v1 => pu_s (pu_it (fun q => fX4_first_o_L5 p z a1 q) pu_F (v1)) fun ex => some ((-1) : Int32)
theorem cd_X4_first_o : yX4_first.cls = RX4 ∧ yX4_first.cls ≠ "java/lang/invoke/MethodHandle" ∧ yX4_first.cls ≠ "java/lang/invoke/VarHandle" ∧ (parseMethodDescriptor yX4_first.desc).map (fun d => d.parameters.length) = some 1 := by decide +kernel
def fX4_first_s_L5 (p : PS) (zc3 : MS) (p2 : Int32) (v4 : Int32) : Option ((Int32) ⊕ ((Unit) ⊕ (Int32))) :=
  if (60 : Int32) < v4 then (some (.inr (.inl ()))) else (pu_g v4 61 (if (ma zc3 3 v4.toNatClampNeg) = p2 then (some (.inr (.inr v4))) else (some (.inl (v4 + 1)))))
def fX4_first_s (p : PS) (z : MS) (a1 : Int32) : Option (Int32) :=
  pu_l1 (mi z 11 : Int32) fun v1 => pu_s (pu_it (fun q => fX4_first_s_L5 p z a1 q) pu_F (v1)) fun ex => some ((-1) : Int32)
theorem cd_X4_first_s : yX4_first.cls = RX4 ∧ yX4_first.cls ≠ "java/lang/invoke/MethodHandle" ∧ yX4_first.cls ≠ "java/lang/invoke/VarHandle" ∧ (parseMethodDescriptor yX4_first.desc).map (fun d => d.parameters.length) = some 1 := by decide +kernel
def fX0_slowly_L17 (p : PS) (p1 : Int32) (p2 : Int32) (v3 : Int32) (v4 : Int32) (z5 : MS) : Option ((Int32 × Int32 × MS) ⊕ (Int32 × MS)) :=
  if (60 : Int32) < v4 then (some (.inr (v3, z5))) else (pu_b1 (fX0_put p z5 p1 v4) fun z12 => pu_b1 (fX4_first_s p z12 p2) fun v14 => if v14 = (-1) then (some (.inl (v3, v4 + 1, z12))) else (pu_l1 (pu_max v3 (v14 - v4) : Int32) fun v16 => some (.inl (v16, v4 + 1, z12))))
def fX0_slowly (p : PS) (z : MS) (a1 : Int32) (a2 : Int32) : Option (Int32 × MS) :=
  if (fX0_areReaches p z a1 a2) = 0 then (some (((-2) : Int32), z)) else (pu_b2 (pu_it (fun q => fX0_slowly_L17 p a1 a2 q.1 q.2.1 q.2.2) pu_F (((-1) : Int32), (0 : Int32), z)) fun v17 z18 => some (v17, z18))
theorem cd_X0_slowly : yX0_slowly.cls = RX0 ∧ yX0_slowly.cls ≠ "java/lang/invoke/MethodHandle" ∧ yX0_slowly.cls ≠ "java/lang/invoke/VarHandle" ∧ (parseMethodDescriptor yX0_slowly.desc).map (fun d => d.parameters.length) = some 2 := by decide +kernel
def fX0_isBit (a1 : Int32) : Int32 :=
  vp_nar .boolean (fX0_in a1.toInt64 (0 : Int64) (1 : Int64))
theorem cd_X0_isBit : yX0_isBit.cls ≠ "java/lang/invoke/MethodHandle" ∧ yX0_isBit.cls ≠ "java/lang/invoke/VarHandle" ∧ (parseMethodDescriptor yX0_isBit.desc).map (fun d => d.parameters.length) = some 1 := by decide +kernel
def fX0_laysLikely_L48 (p : PS) (p16 : Int32) (p17 : Int32) (v18 : Int32) (z19 : MS) : Option ((Int32 × MS) ⊕ (MS)) :=
  if (2000 : Int32) ≤ v18 then (some (.inr (z19))) else (pu_g v18 2000 (if (lg_cmp (ml z19 0 v18.toNatClampNeg) 0) = 0 then (some (.inl (v18 + 1, z19))) else (pu_g p17 61 (pu_l1 ((pu_max (0 : Int32) (v18 - 1)) + (ma z19 2 p17.toNatClampNeg) : Int32) fun v28 => pu_g v28 2000 (pu_g v18 2000 (pu_g v28 2000 (let z32 := msl z19 1 v28 ((ml z19 1 v28.toNatClampNeg) + ((ml z19 0 v18.toNatClampNeg) * ((10 - (pw p 1) : Int32).toInt64))); pu_g (v28 + (pw p 2)) 2000 (pu_g v18 2000 (pu_g (v28 + (pw p 2)) 2000 (let z36 := msl z32 1 (v28 + (pw p 2)) ((ml z32 1 (v28 + (pw p 2) : Int32).toNatClampNeg) + ((ml z32 0 v18.toNatClampNeg) * ((pw p 1 : Int32).toInt64))); some (.inl (v18 + 1, z36))))))))))))
def fX0_laysLikely_L33 (p : PS) (p6 : Int32) (v7 : Int32) (z8 : MS) : Option ((Int32 × MS) ⊕ (MS)) :=
  if p6 < v7 then (some (.inr (z8))) else (let z15 := mslf z8 1 2000 0; pu_b1 (pu_it (fun q => fX0_laysLikely_L48 p p6 v7 q.1 q.2) pu_F ((0 : Int32), z15)) fun z37 => let z38 := mslc z37; some (.inl (v7 + 1, z38)))
def fX0_laysLikely (p : PS) (z : MS) (a1 : Int32) : Option (MS) :=
  pu_b1 (fX3_is p z) fun z1 => let z3 := mslf z1 0 2000 0; pu_g (ma z3 1 (0 : Int32).toNatClampNeg) 2000 (let z5 := msl z3 0 (ma z3 1 (0 : Int32).toNatClampNeg) 1; pu_b1 (pu_it (fun q => fX0_laysLikely_L33 p a1 q.1 q.2) pu_F ((1 : Int32), z5)) fun z39 => some z39)
theorem cd_X0_laysLikely : yX0_laysLikely.cls = RX0 ∧ yX0_laysLikely.cls ≠ "java/lang/invoke/MethodHandle" ∧ yX0_laysLikely.cls ≠ "java/lang/invoke/VarHandle" ∧ (parseMethodDescriptor yX0_laysLikely.desc).map (fun d => d.parameters.length) = some 1 := by decide +kernel
def fX0_mean_L43 (p : PS) (zc5 : MS) (p3 : Int32) (p4 : Int32) (v6 : Int64) (v7 : Int32) : Option ((Int64 × Int32) ⊕ (Int64)) :=
  if (2000 : Int32) ≤ v7 then (some (.inr (v6))) else (pu_g v7 2000 (pu_l1 (v6 + (v7.toInt64 * (ml zc5 0 v7.toNatClampNeg)) : Int64) fun v15 => some (.inl (v15, v7 + 1))))
def fX0_mean (p : PS) (z : MS) (a1 : Int32) (a2 : Int32) : Option (Int64 × MS) :=
  if (fX2_is p) = 0 then (some (((-2) : Int64), z)) else (if (fX0_in a1.toInt64 (0 : Int64) (14 : Int64)) = 0 then (some (((-2) : Int64), z)) else (if (fX0_isBit a2) = 0 then (some (((-2) : Int64), z)) else (pu_b1 (fX0_laysLikely p z a1) fun z1 => pu_b1 (pu_it (fun q => fX0_mean_L43 p z1 a1 a2 q.1 q.2) pu_F ((0 : Int64), (0 : Int32))) fun v16 => pu_b1 (fX0_power (10 : Int64) a1) fun v17 => if a2 = 0 then (pu_b1 (fX0_common v16 v17) fun v22 => pu_zl v22 (some (v16 / v22, z1))) else (pu_b1 (fX0_common v16 v17) fun v19 => pu_zl v19 (some (v17 / v19, z1))))))
theorem cd_X0_mean : yX0_mean.cls = RX0 ∧ yX0_mean.cls ≠ "java/lang/invoke/MethodHandle" ∧ yX0_mean.cls ≠ "java/lang/invoke/VarHandle" ∧ (parseMethodDescriptor yX0_mean.desc).map (fun d => d.parameters.length) = some 2 := by decide +kernel
def fX0_hasOf (a1 : Int32) (a2 : Int32) : Int32 :=
  (6 * a1) - (a1 * (a1 + a2))
theorem cd_X0_hasOf : yX0_hasOf.cls ≠ "java/lang/invoke/MethodHandle" ∧ yX0_hasOf.cls ≠ "java/lang/invoke/VarHandle" ∧ (parseMethodDescriptor yX0_hasOf.desc).map (fun d => d.parameters.length) = some 2 := by decide +kernel
def fX0_answer_L19 (p : PS) (zc2 : MS) (p1 : Int32) (v3 : Int32) (v4 : Int32) : Option ((Int32 × Int32) ⊕ (Int32)) :=
  if (4 : Int32) < v4 then (some (.inr (v3))) else (if (fX0_hasOf v4 p1) ≤ (fX0_hasOf v3 p1) then (some (.inl (v3, v4 + 1))) else (some (.inl (v4, v4 + 1))))
def fX0_answer (p : PS) (z : MS) (a1 : Int32) : Option (Int32) :=
  if (fX0_in a1.toInt64 (0 : Int64) (4 : Int64)) = 0 then (some ((-2) : Int32)) else (pu_b1 (pu_it (fun q => fX0_answer_L19 p z a1 q.1 q.2) pu_F ((0 : Int32), (1 : Int32))) fun v11 => some v11)
theorem cd_X0_answer : yX0_answer.cls = RX0 ∧ yX0_answer.cls ≠ "java/lang/invoke/MethodHandle" ∧ yX0_answer.cls ≠ "java/lang/invoke/VarHandle" ∧ (parseMethodDescriptor yX0_answer.desc).map (fun d => d.parameters.length) = some 1 := by decide +kernel
def fX0_rain (p : PS) (z : MS) (a1 : Int32) (a2 : Int32) : Option (Int32) :=
  if (fX0_in a1.toInt64 (0 : Int64) (((pw p 5) - 1 : Int32).toInt64)) = 0 then (some ((-2) : Int32)) else (if (fX0_isBit a2) = 0 then (some ((-2) : Int32)) else (pu_g a1 (pq p 2) (if a2 = 0 then (some (pw p (58 + 2 * a1.toNatClampNeg))) else (some (pw p (59 + 2 * a1.toNatClampNeg))))))
theorem cd_X0_rain : yX0_rain.cls = RX0 ∧ yX0_rain.cls ≠ "java/lang/invoke/MethodHandle" ∧ yX0_rain.cls ≠ "java/lang/invoke/VarHandle" ∧ (parseMethodDescriptor yX0_rain.desc).map (fun d => d.parameters.length) = some 2 := by decide +kernel
def fX0_level (p : PS) (z : MS) (a1 : Int32) : Option (Int32 × MS) :=
  if (fX0_isStep p z a1.toInt64) = 0 then (some (((-2) : Int32), z)) else (pu_b1 (fX3_is p z) fun z1 => pu_g a1 61 (some (ma z1 1 a1.toNatClampNeg, z1)))
theorem cd_X0_level : yX0_level.cls = RX0 ∧ yX0_level.cls ≠ "java/lang/invoke/MethodHandle" ∧ yX0_level.cls ≠ "java/lang/invoke/VarHandle" ∧ (parseMethodDescriptor yX0_level.desc).map (fun d => d.parameters.length) = some 1 := by decide +kernel
def fX0_dry_L22 (p : PS) (zc4 : MS) (p3 : Int32) (v5 : Int32) : Option ((Int32) ⊕ ((Unit) ⊕ (Int32 × MS))) :=
  if (60 : Int32) < v5 then (some (.inr (.inl ()))) else (pu_b1 (fX3_isStanding p zc4 p3 v5) fun v12 => if v12 = 0 then (some (.inl (v5 + 1))) else (some (.inr (.inr (v5, zc4)))))
def fX0_dry (p : PS) (z : MS) (a1 : Int32) : Option (Int32 × MS) :=
  if (fX0_isReach p z a1.toInt64) = 0 then (some (((-2) : Int32), z)) else (pu_b1 (fX3_is p z) fun z1 => pu_s (pu_it (fun q => fX0_dry_L22 p z1 a1 q) pu_F ((0 : Int32))) fun ex => some (((-1) : Int32), z1))
theorem cd_X0_dry : yX0_dry.cls = RX0 ∧ yX0_dry.cls ≠ "java/lang/invoke/MethodHandle" ∧ yX0_dry.cls ≠ "java/lang/invoke/VarHandle" ∧ (parseMethodDescriptor yX0_dry.desc).map (fun d => d.parameters.length) = some 1 := by decide +kernel
def fX0_drought_L27 (p : PS) (zc4 : MS) (p3 : Int32) (v5 : Int32) (v6 : Int32) (v7 : Int32) : Option ((Int32 × Int32 × Int32) ⊕ (Int32)) :=
  if (60 : Int32) < v7 then (some (.inr (v5))) else (pu_b1 (fX3_isStanding p zc4 p3 v7) fun v14 => pu_l1 (if v14 = 0 then ((0 : Int32)) else (v6 + 1) : Int32) fun v16 => pu_l1 (pu_max v5 v16 : Int32) fun v19 => some (.inl (v19, v16, v7 + 1)))
def fX0_drought (p : PS) (z : MS) (a1 : Int32) : Option (Int32 × MS) :=
  if (fX0_isReach p z a1.toInt64) = 0 then (some (((-2) : Int32), z)) else (pu_b1 (fX3_is p z) fun z1 => pu_b1 (pu_it (fun q => fX0_drought_L27 p z1 a1 q.1 q.2.1 q.2.2) pu_F ((0 : Int32), (0 : Int32), (0 : Int32))) fun v20 => some (v20, z1))
theorem cd_X0_drought : yX0_drought.cls = RX0 ∧ yX0_drought.cls ≠ "java/lang/invoke/MethodHandle" ∧ yX0_drought.cls ≠ "java/lang/invoke/VarHandle" ∧ (parseMethodDescriptor yX0_drought.desc).map (fun d => d.parameters.length) = some 1 := by decide +kernel
def fX0_where (p : PS) (z : MS) (a1 : Int32) (a2 : Int32) (a3 : Int32) : Option (Int32 × MS) :=
  if (fX0_isStick p z a1 a2) = 0 then (some (((-2) : Int32), z)) else (if (fX0_in a3.toInt64 a2.toInt64 (60 : Int64)) = 0 then (some (((-2) : Int32), z)) else (pu_b1 (fX0_put p z a1 a2) fun z1 => pu_g a3 61 (pu_l1 (ma z1 3 a3.toNatClampNeg : Int32) fun v4 => if (10 : Int32) ≤ v4 then (some (((-1) : Int32), z1)) else (some (v4, z1)))))
theorem cd_X0_where : yX0_where.cls = RX0 ∧ yX0_where.cls ≠ "java/lang/invoke/MethodHandle" ∧ yX0_where.cls ≠ "java/lang/invoke/VarHandle" ∧ (parseMethodDescriptor yX0_where.desc).map (fun d => d.parameters.length) = some 3 := by decide +kernel
def fX0_sea (p : PS) (z : MS) (a1 : Int32) (a2 : Int32) : Option (Int32 × MS) :=
  if (fX0_isStick p z a1 a2) = 0 then (some (((-2) : Int32), z)) else (pu_b1 (fX0_put p z a1 a2) fun z1 => pu_b1 (fX4_first_s p z1 (10 : Int32)) fun v3 => some (v3, z1))
theorem cd_X0_sea : yX0_sea.cls = RX0 ∧ yX0_sea.cls ≠ "java/lang/invoke/MethodHandle" ∧ yX0_sea.cls ≠ "java/lang/invoke/VarHandle" ∧ (parseMethodDescriptor yX0_sea.desc).map (fun d => d.parameters.length) = some 2 := by decide +kernel
def fX0_comes (p : PS) (z : MS) (a1 : Int32) (a2 : Int32) (a3 : Int32) : Option (Int32 × MS) :=
  if (fX0_isStick p z a1 a2) = 0 then (some (((-2) : Int32), z)) else (if (fX0_isReach p z a3.toInt64) = 0 then (some (((-2) : Int32), z)) else (pu_b1 (fX0_put p z a1 a2) fun z1 => pu_b1 (fX4_first_s p z1 a3) fun v3 => some (v3, z1)))
theorem cd_X0_comes : yX0_comes.cls = RX0 ∧ yX0_comes.cls ≠ "java/lang/invoke/MethodHandle" ∧ yX0_comes.cls ≠ "java/lang/invoke/VarHandle" ∧ (parseMethodDescriptor yX0_comes.desc).map (fun d => d.parameters.length) = some 3 := by decide +kernel
def fX0_way (p : PS) (z : MS) (a1 : Int32) (a2 : Int32) : Option (Int32 × MS) :=
  if (fX0_isStick p z a1 a2) = 0 then (some (((-2) : Int32), z)) else (pu_b1 (fX0_put p z a1 a2) fun z1 => pu_b1 (fX4_way_s p z1) fun v3 => some (v3, z1))
theorem cd_X0_way : yX0_way.cls = RX0 ∧ yX0_way.cls ≠ "java/lang/invoke/MethodHandle" ∧ yX0_way.cls ≠ "java/lang/invoke/VarHandle" ∧ (parseMethodDescriptor yX0_way.desc).map (fun d => d.parameters.length) = some 2 := by decide +kernel
def fX0_leaves (p : PS) (z : MS) (a1 : Int32) (a2 : Int32) : Option (Int32 × MS) :=
  if (fX0_isStick p z a1 a2) = 0 then (some (((-2) : Int32), z)) else (pu_b1 (fX0_put p z a1 a2) fun z1 => some (mi z1 12, z1))
theorem cd_X0_leaves : yX0_leaves.cls = RX0 ∧ yX0_leaves.cls ≠ "java/lang/invoke/MethodHandle" ∧ yX0_leaves.cls ≠ "java/lang/invoke/VarHandle" ∧ (parseMethodDescriptor yX0_leaves.desc).map (fun d => d.parameters.length) = some 2 := by decide +kernel
def fX0_waits (p : PS) (z : MS) (a1 : Int32) (a2 : Int32) : Option (Int32 × MS) :=
  if (fX0_isStick p z a1 a2) = 0 then (some (((-2) : Int32), z)) else (pu_b1 (fX0_put p z a1 a2) fun z1 => some (mi z1 14, z1))
theorem cd_X0_waits : yX0_waits.cls = RX0 ∧ yX0_waits.cls ≠ "java/lang/invoke/MethodHandle" ∧ yX0_waits.cls ≠ "java/lang/invoke/VarHandle" ∧ (parseMethodDescriptor yX0_waits.desc).map (fun d => d.parameters.length) = some 2 := by decide +kernel
def fX0_jumps (p : PS) (z : MS) (a1 : Int32) (a2 : Int32) : Option (Int32 × MS) :=
  if (fX0_isStick p z a1 a2) = 0 then (some (((-2) : Int32), z)) else (pu_b1 (fX0_put p z a1 a2) fun z1 => some (mi z1 13, z1))
theorem cd_X0_jumps : yX0_jumps.cls = RX0 ∧ yX0_jumps.cls ≠ "java/lang/invoke/MethodHandle" ∧ yX0_jumps.cls ≠ "java/lang/invoke/VarHandle" ∧ (parseMethodDescriptor yX0_jumps.desc).map (fun d => d.parameters.length) = some 2 := by decide +kernel
def fX0_finds_L24 (p : PS) (zc3 : MS) (v4 : Int32) (v5 : Int32) : Option ((Int32 × Int32) ⊕ (Int32)) :=
  if (fX0_reaches p zc3) ≤ v5 then (some (.inr (v4))) else (pu_b1 (fX4_first_s p zc3 v5) fun v12 => pu_b1 (fX4_first_s p zc3 v4) fun v14 => if v12 ≤ v14 then (some (.inl (v4, v5 + 1))) else (some (.inl (v5, v5 + 1))))
def fX0_finds (p : PS) (z : MS) (a1 : Int32) (a2 : Int32) : Option (Int32 × MS) :=
  if (fX0_isStick p z a1 a2) = 0 then (some (((-2) : Int32), z)) else (pu_b1 (fX0_put p z a1 a2) fun z1 => pu_b1 (pu_it (fun q => fX0_finds_L24 p z1 q.1 q.2) pu_F (a1, (0 : Int32))) fun v16 => some (v16, z1))
theorem cd_X0_finds : yX0_finds.cls = RX0 ∧ yX0_finds.cls ≠ "java/lang/invoke/MethodHandle" ∧ yX0_finds.cls ≠ "java/lang/invoke/VarHandle" ∧ (parseMethodDescriptor yX0_finds.desc).map (fun d => d.parameters.length) = some 2 := by decide +kernel
def fX0_ends_L16 (p : PS) (p1 : Int32) (v2 : Int32) (v3 : Int32) (z4 : MS) : Option ((Int32 × Int32 × MS) ⊕ (Int32 × MS)) :=
  if (fX0_reaches p z4) ≤ v3 then (some (.inr (v2, z4))) else (pu_b1 (fX0_put p z4 v3 p1) fun z11 => pu_b1 (fX4_first_s p z11 (10 : Int32)) fun v13 => if v13 = (-1) then (pu_l1 (v2 ||| 0 : Int32) fun v15 => some (.inl (v15, v3 + 1, z11))) else (pu_l1 (v2 ||| ((1 : Int32) <<< (v3 &&& 31)) : Int32) fun v16 => some (.inl (v16, v3 + 1, z11))))
def fX0_ends (p : PS) (z : MS) (a1 : Int32) : Option (Int32 × MS) :=
  if (fX0_isStep p z a1.toInt64) = 0 then (some (((-2) : Int32), z)) else (pu_b2 (pu_it (fun q => fX0_ends_L16 p a1 q.1 q.2.1 q.2.2) pu_F ((0 : Int32), (0 : Int32), z)) fun v17 z18 => some (v17, z18))
theorem cd_X0_ends : yX0_ends.cls = RX0 ∧ yX0_ends.cls ≠ "java/lang/invoke/MethodHandle" ∧ yX0_ends.cls ≠ "java/lang/invoke/VarHandle" ∧ (parseMethodDescriptor yX0_ends.desc).map (fun d => d.parameters.length) = some 1 := by decide +kernel
def fX0_meet_L31 (p : PS) (zc5 : MS) (v6 : Int32) : Option ((Int32) ⊕ ((Unit) ⊕ (Int32 × MS))) :=
  if (60 : Int32) < v6 then (some (.inr (.inl ()))) else (pu_g v6 61 (if (10 : Int32) ≤ (ma zc5 3 v6.toNatClampNeg) then (some (.inl (v6 + 1))) else (pu_g v6 61 (pu_g v6 61 (if (ma zc5 3 v6.toNatClampNeg) = (ma zc5 13 v6.toNatClampNeg) then (some (.inr (.inr (v6, zc5)))) else (some (.inl (v6 + 1))))))))
def fX0_meet (p : PS) (z : MS) (a1 : Int32) (a2 : Int32) : Option (Int32 × MS) :=
  if (fX0_areReaches p z a1 a2) = 0 then (some (((-2) : Int32), z)) else (pu_b1 (fX0_put p z a1 (0 : Int32)) fun z1 => pu_b1 (fX4_goes_o p z1 a2 (0 : Int32)) fun z3 => pu_s (pu_it (fun q => fX0_meet_L31 p z3 q) pu_F ((0 : Int32))) fun ex => some (((-1) : Int32), z3))
theorem cd_X0_meet : yX0_meet.cls = RX0 ∧ yX0_meet.cls ≠ "java/lang/invoke/MethodHandle" ∧ yX0_meet.cls ≠ "java/lang/invoke/VarHandle" ∧ (parseMethodDescriptor yX0_meet.desc).map (fun d => d.parameters.length) = some 2 := by decide +kernel
def fX0_soon_L22 (p : PS) (p1 : Int32) (p2 : Int32) (v3 : Int32) (v4 : Int32) (v5 : Int32) (z6 : MS) : Option ((Int32 × Int32 × Int32 × MS) ⊕ (Int32 × MS)) :=
  if (60 : Int32) < v5 then (some (.inr (v3, z6))) else (pu_b1 (fX0_put p z6 p1 v5) fun z13 => pu_b1 (fX4_first_s p z13 p2) fun v15 => if v15 = (-1) then (some (.inl (v3, v4, v5 + 1, z13))) else (if v15 ≤ v4 then (some (.inl (v5, v15, v5 + 1, z13))) else (some (.inl (v3, v4, v5 + 1, z13)))))
def fX0_soon (p : PS) (z : MS) (a1 : Int32) (a2 : Int32) : Option (Int32 × MS) :=
  if (fX0_areReaches p z a1 a2) = 0 then (some (((-2) : Int32), z)) else (pu_b2 (pu_it (fun q => fX0_soon_L22 p a1 a2 q.1 q.2.1 q.2.2.1 q.2.2.2) pu_F (((-1) : Int32), (1000 : Int32), (0 : Int32), z)) fun v17 z18 => some (v17, z18))
theorem cd_X0_soon : yX0_soon.cls = RX0 ∧ yX0_soon.cls ≠ "java/lang/invoke/MethodHandle" ∧ yX0_soon.cls ≠ "java/lang/invoke/VarHandle" ∧ (parseMethodDescriptor yX0_soon.desc).map (fun d => d.parameters.length) = some 2 := by decide +kernel
def fX0_quickOf_L12 (p : PS) (p2 : Int32) (p3 : Int32) (v4 : Int32) (v5 : Int32) (z6 : MS) : Option ((Int32 × Int32 × MS) ⊕ (Int32 × MS)) :=
  if (60 : Int32) < v5 then (some (.inr (v4, z6))) else (pu_b1 (fX0_put p z6 p2 v5) fun z13 => pu_b1 (fX4_first_s p z13 p3) fun v15 => if v15 = (-1) then (some (.inl (v4, v5 + 1, z13))) else (if (v15 - v5) < v4 then (let z17 := msi z13 3 v5; pu_l1 (v15 - v5 : Int32) fun v18 => some (.inl (v18, v5 + 1, z17))) else (some (.inl (v4, v5 + 1, z13)))))
def fX0_quickOf (p : PS) (z : MS) (a1 : Int32) (a2 : Int32) : Option (Int32 × MS) :=
  let z1 := msi z 3 (-1); pu_b2 (pu_it (fun q => fX0_quickOf_L12 p a1 a2 q.1 q.2.1 q.2.2) pu_F ((1000 : Int32), (0 : Int32), z1)) fun v19 z20 => if (mi z20 3) = (-1) then (some (((-1) : Int32), z20)) else (some (v19, z20))
theorem cd_X0_quickOf : yX0_quickOf.cls = RX0 ∧ yX0_quickOf.cls ≠ "java/lang/invoke/MethodHandle" ∧ yX0_quickOf.cls ≠ "java/lang/invoke/VarHandle" ∧ (parseMethodDescriptor yX0_quickOf.desc).map (fun d => d.parameters.length) = some 2 := by decide +kernel
def fX0_quick (p : PS) (z : MS) (a1 : Int32) (a2 : Int32) : Option (Int32 × MS) :=
  if (fX0_areReaches p z a1 a2) = 0 then (some (((-2) : Int32), z)) else (pu_b2 (fX0_quickOf p z a1 a2) fun v1 z2 => some (v1, z2))
theorem cd_X0_quick : yX0_quick.cls = RX0 ∧ yX0_quick.cls ≠ "java/lang/invoke/MethodHandle" ∧ yX0_quick.cls ≠ "java/lang/invoke/VarHandle" ∧ (parseMethodDescriptor yX0_quick.desc).map (fun d => d.parameters.length) = some 2 := by decide +kernel
def fX0_quickly (p : PS) (z : MS) (a1 : Int32) (a2 : Int32) : Option (Int32 × MS) :=
  if (fX0_areReaches p z a1 a2) = 0 then (some (((-2) : Int32), z)) else (pu_b2 (fX0_quickOf p z a1 a2) fun v1 z2 => some (mi z2 3, z2))
theorem cd_X0_quickly : yX0_quickly.cls = RX0 ∧ yX0_quickly.cls ≠ "java/lang/invoke/MethodHandle" ∧ yX0_quickly.cls ≠ "java/lang/invoke/VarHandle" ∧ (parseMethodDescriptor yX0_quickly.desc).map (fun d => d.parameters.length) = some 2 := by decide +kernel
def fX0_late_L24 (p : PS) (p1 : Int32) (p2 : Int32) (p3 : Int32) (v4 : Int32) (z5 : MS) : Option ((Int32 × MS) ⊕ ((MS) ⊕ (Int32 × MS))) :=
  if v4 < 0 then (some (.inr (.inl (z5)))) else (pu_b1 (fX0_put p z5 p1 v4) fun z12 => pu_g p3 61 (if (ma z12 3 p3.toNatClampNeg) = p2 then (some (.inr (.inr (v4, z12)))) else (some (.inl (v4 + (-1), z12)))))
def fX0_late (p : PS) (z : MS) (a1 : Int32) (a2 : Int32) (a3 : Int32) : Option (Int32 × MS) :=
  if (fX0_areReaches p z a1 a2) = 0 then (some (((-2) : Int32), z)) else (if (fX0_isStep p z a3.toInt64) = 0 then (some (((-2) : Int32), z)) else (pu_s (pu_it (fun q => fX0_late_L24 p a1 a2 a3 q.1 q.2) pu_F (a3, z)) fun ex => pu_l1 ex fun z15 => some (((-1) : Int32), z15)))
theorem cd_X0_late : yX0_late.cls = RX0 ∧ yX0_late.cls ≠ "java/lang/invoke/MethodHandle" ∧ yX0_late.cls ≠ "java/lang/invoke/VarHandle" ∧ (parseMethodDescriptor yX0_late.desc).map (fun d => d.parameters.length) = some 3 := by decide +kernel
def fX0_often_L17 (p : PS) (p1 : Int32) (p2 : Int32) (v3 : Int32) (v4 : Int32) (z5 : MS) : Option ((Int32 × Int32 × MS) ⊕ (Int32 × MS)) :=
  if (60 : Int32) < v4 then (some (.inr (v3, z5))) else (pu_b1 (fX0_put p z5 p1 v4) fun z12 => pu_b1 (fX4_first_s p z12 p2) fun v14 => if v14 = (-1) then (pu_l1 (v3 + 0 : Int32) fun v17 => some (.inl (v17, v4 + 1, z12))) else (pu_l1 (v3 + 1 : Int32) fun v16 => some (.inl (v16, v4 + 1, z12))))
def fX0_often (p : PS) (z : MS) (a1 : Int32) (a2 : Int32) : Option (Int32 × MS) :=
  if (fX0_areReaches p z a1 a2) = 0 then (some (((-2) : Int32), z)) else (pu_b2 (pu_it (fun q => fX0_often_L17 p a1 a2 q.1 q.2.1 q.2.2) pu_F ((0 : Int32), (0 : Int32), z)) fun v18 z19 => some (v18, z19))
theorem cd_X0_often : yX0_often.cls = RX0 ∧ yX0_often.cls ≠ "java/lang/invoke/MethodHandle" ∧ yX0_often.cls ≠ "java/lang/invoke/VarHandle" ∧ (parseMethodDescriptor yX0_often.desc).map (fun d => d.parameters.length) = some 2 := by decide +kernel
def fX0_isStopped_L19 (p : PS) (p4 : Int32) (p5 : Int32) (v6 : Int32) (z7 : MS) : Option ((Int32 × MS) ⊕ ((MS) ⊕ (Int32 × MS))) :=
  if (60 : Int32) < v6 then (some (.inr (.inl (z7)))) else (pu_b1 (fX4_goes_s p z7 p4 v6) fun z14 => pu_b1 (fX4_first_s p z14 p5) fun v16 => if v16 = (-1) then (some (.inl (v6 + 1, z14))) else (some (.inr (.inr ((0 : Int32), z14)))))
def fX0_isStopped (p : PS) (z : MS) (a1 : Int32) (a2 : Int32) (a3 : Int32) : Option (Int32 × MS) :=
  pu_b1 (fX3_is p z) fun z1 => let z3 := msi z1 6 a1; pu_s (pu_it (fun q => fX0_isStopped_L19 p a2 a3 q.1 q.2) pu_F ((0 : Int32), z3)) fun ex => pu_l1 ex fun z18 => some ((1 : Int32), z18)
theorem cd_X0_isStopped : yX0_isStopped.cls = RX0 ∧ yX0_isStopped.cls ≠ "java/lang/invoke/MethodHandle" ∧ yX0_isStopped.cls ≠ "java/lang/invoke/VarHandle" ∧ (parseMethodDescriptor yX0_isStopped.desc).map (fun d => d.parameters.length) = some 3 := by decide +kernel
def fX0_stopsOf_L5 (p : PS) (p1 : Int32) (p2 : Int32) (v3 : Int32) (v4 : Int32) (z5 : MS) : Option ((Int32 × Int32 × MS) ⊕ (Int32 × MS)) :=
  if ((1 : Int32) <<< ((fX0_reaches p z5 : Int32) &&& 31)) ≤ v4 then (some (.inr (v3, z5))) else (if (fX0_isOn v4 p1) = 0 then (if (fX0_isOn v4 p2) = 0 then (if v3 = (-1) then (pu_b2 (fX0_isStopped p z5 v4 p1 p2) fun v12 z13 => if v12 = 0 then (some (.inl (v3, v4 + 1, z13))) else (some (.inl (v4, v4 + 1, z13)))) else (if (fX0_size v4) < (fX0_size v3) then (pu_b2 (fX0_isStopped p z5 v4 p1 p2) fun v15 z16 => if v15 = 0 then (some (.inl (v3, v4 + 1, z16))) else (some (.inl (v4, v4 + 1, z16)))) else (some (.inl (v3, v4 + 1, z5))))) else (some (.inl (v3, v4 + 1, z5)))) else (some (.inl (v3, v4 + 1, z5))))
def fX0_stopsOf (p : PS) (z : MS) (a1 : Int32) (a2 : Int32) : Option (Int32 × MS) :=
  pu_b2 (pu_it (fun q => fX0_stopsOf_L5 p a1 a2 q.1 q.2.1 q.2.2) pu_F (((-1) : Int32), (0 : Int32), z)) fun v18 z19 => some (v18, z19)
theorem cd_X0_stopsOf : yX0_stopsOf.cls = RX0 ∧ yX0_stopsOf.cls ≠ "java/lang/invoke/MethodHandle" ∧ yX0_stopsOf.cls ≠ "java/lang/invoke/VarHandle" ∧ (parseMethodDescriptor yX0_stopsOf.desc).map (fun d => d.parameters.length) = some 2 := by decide +kernel
def fX0_stop (p : PS) (z : MS) (a1 : Int32) (a2 : Int32) : Option (Int32 × MS) :=
  if (fX0_areReaches p z a1 a2) = 0 then (some (((-2) : Int32), z)) else (pu_b2 (fX0_stopsOf p z a1 a2) fun v1 z2 => if v1 = (-1) then (some (((-1) : Int32), z2)) else (some (fX0_size v1, z2)))
theorem cd_X0_stop : yX0_stop.cls = RX0 ∧ yX0_stop.cls ≠ "java/lang/invoke/MethodHandle" ∧ yX0_stop.cls ≠ "java/lang/invoke/VarHandle" ∧ (parseMethodDescriptor yX0_stop.desc).map (fun d => d.parameters.length) = some 2 := by decide +kernel
def fX0_stops (p : PS) (z : MS) (a1 : Int32) (a2 : Int32) : Option (Int32 × MS) :=
  if (fX0_areReaches p z a1 a2) = 0 then (some (((-2) : Int32), z)) else (pu_b2 (fX0_stopsOf p z a1 a2) fun v1 z2 => some (v1, z2))
theorem cd_X0_stops : yX0_stops.cls = RX0 ∧ yX0_stops.cls ≠ "java/lang/invoke/MethodHandle" ∧ yX0_stops.cls ≠ "java/lang/invoke/VarHandle" ∧ (parseMethodDescriptor yX0_stops.desc).map (fun d => d.parameters.length) = some 2 := by decide +kernel
def fX0_orFar (a1 : Int32) : Int32 :=
  if a1 = (-1) then ((1000 : Int32)) else a1
theorem cd_X0_orFar : yX0_orFar.cls ≠ "java/lang/invoke/MethodHandle" ∧ yX0_orFar.cls ≠ "java/lang/invoke/VarHandle" ∧ (parseMethodDescriptor yX0_orFar.desc).map (fun d => d.parameters.length) = some 1 := by decide +kernel
def fX0_shut_L42 (p : PS) (p7 : Int32) (p8 : Int32) (p9 : Int32) (v10 : Int32) (v11 : Int32) (v12 : Int32) (z13 : MS) : Option ((Int32 × Int32 × Int32 × MS) ⊕ (Int32 × MS)) :=
  if (pw p 4) ≤ v12 then (some (.inr (v10, z13))) else (let z20 := msi z13 5 (p9 ||| ((1 : Int32) <<< (v12 &&& 31))); pu_b1 (fX4_goes_s p z20 p7 p8) fun z21 => pu_b1 (fX4_first_s p z21 (10 : Int32)) fun v23 => pu_l1 (fX0_orFar v23 : Int32) fun v25 => if v25 < v11 then (some (.inl (v12, v25, v12 + 1, z21))) else (some (.inl (v10, v11, v12 + 1, z21))))
def fX0_shut (p : PS) (z : MS) (a1 : Int32) (a2 : Int32) : Option (Int32 × MS) :=
  if (fX0_isStick p z a1 a2) = 0 then (some (((-2) : Int32), z)) else (pu_b1 (fX0_put p z a1 a2) fun z1 => pu_b1 (fX4_first_s p z1 (10 : Int32)) fun v3 => pu_l1 (fX0_orFar v3 : Int32) fun v5 => pu_l1 (mi z1 5 : Int32) fun v6 => pu_b2 (pu_it (fun q => fX0_shut_L42 p a1 a2 v6 q.1 q.2.1 q.2.2.1 q.2.2.2) pu_F (((-1) : Int32), v5, (0 : Int32), z1)) fun v26 z27 => some (v26, z27))
theorem cd_X0_shut : yX0_shut.cls = RX0 ∧ yX0_shut.cls ≠ "java/lang/invoke/MethodHandle" ∧ yX0_shut.cls ≠ "java/lang/invoke/VarHandle" ∧ (parseMethodDescriptor yX0_shut.desc).map (fun d => d.parameters.length) = some 2 := by decide +kernel
def fX0_pour_L32 (p : PS) (p3 : Int32) (p4 : Int32) (p5 : Int32) (v6 : Int32) (z7 : MS) : Option ((Int32 × MS) ⊕ ((MS) ⊕ (Int32 × MS))) :=
  if (60 : Int32) < v6 then (some (.inr (.inl (z7)))) else (pu_b1 (fX4_goes_s p z7 p3 p4) fun z14 => pu_b1 (fX4_first_s p z14 (10 : Int32)) fun v16 => if v16 = (-1) then (pu_g p5 61 (pu_g p5 61 (let z20 := msa z14 2 p5 ((ma z14 2 p5.toNatClampNeg) + 1); pu_b1 (fX3_flows p z20) fun z21 => some (.inl (v6 + 1, z21))))) else (some (.inr (.inr (v6, z14)))))
def fX0_pour (p : PS) (z : MS) (a1 : Int32) (a2 : Int32) (a3 : Int32) : Option (Int32 × MS) :=
  if (fX0_isStick p z a1 a2) = 0 then (some (((-2) : Int32), z)) else (if (fX0_isStep p z a3.toInt64) = 0 then (some (((-2) : Int32), z)) else (pu_b1 (fX3_is p z) fun z1 => pu_s (pu_it (fun q => fX0_pour_L32 p a1 a2 a3 q.1 q.2) pu_F ((0 : Int32), z1)) fun ex => pu_l1 ex fun z23 => some (((-1) : Int32), z23)))
theorem cd_X0_pour : yX0_pour.cls = RX0 ∧ yX0_pour.cls ≠ "java/lang/invoke/MethodHandle" ∧ yX0_pour.cls ≠ "java/lang/invoke/VarHandle" ∧ (parseMethodDescriptor yX0_pour.desc).map (fun d => d.parameters.length) = some 3 := by decide +kernel
def fX0_whyNot_L51 (p : PS) (zc4 : MS) (w3 : Nat) (v5 : Int32) : Option ((Int32) ⊕ ((Unit) ⊕ (Int32))) :=
  pu_h p w3 (if (pm p w3) ≤ v5 then (some (.inr (.inl ()))) else (pu_h p w3 (pu_g v5 (pm p w3).toNatClampNeg (if (fX0_in (pn p (60 * w3 + v5.toNatClampNeg)) (0 : Int64) (60 : Int64)) = 0 then (some (.inr (.inr ((-2) : Int32)))) else (pu_h p w3 (pu_g (v5 + 1) (pm p w3).toNatClampNeg (if (fX0_isReach p zc4 (pn p (60 * w3 + (v5 + 1 : Int32).toNatClampNeg))) = 0 then (some (.inr (.inr ((-2) : Int32)))) else (some (.inl (v5 + 2))))))))))
def fX0_whyNot (p : PS) (z : MS) (a1 : Int32) : Option (Int32) :=
  if (fX0_isSlot a1) = 0 then (some ((-2) : Int32)) else (if (fX2_is p) = 0 then (some ((-2) : Int32)) else (pu_g a1 4 (if pm p a1.toNatClampNeg = -1 then (some ((-6) : Int32)) else (pu_h p a1.toNatClampNeg (if ((pm p a1.toNatClampNeg) - (pm p a1.toNatClampNeg) / 2 * 2) = 0 then (pu_s (pu_it (fun q => fX0_whyNot_L51 p z a1.toNatClampNeg q) pu_F ((0 : Int32))) fun ex => some (0 : Int32)) else (some ((-2) : Int32)))))))
theorem cd_X0_whyNot : yX0_whyNot.cls = RX0 ∧ yX0_whyNot.cls ≠ "java/lang/invoke/MethodHandle" ∧ yX0_whyNot.cls ≠ "java/lang/invoke/VarHandle" ∧ (parseMethodDescriptor yX0_whyNot.desc).map (fun d => d.parameters.length) = some 1 := by decide +kernel
def fX0_isSeen_L2 (p : PS) (zc2 : MS) (w1 : Nat) (v3 : Int32) : Option ((Int32) ⊕ ((Unit) ⊕ (Int32))) :=
  pu_h p w1 (if (pm p w1) ≤ v3 then (some (.inr (.inl ()))) else (pu_h p w1 (pu_g v3 (pm p w1).toNatClampNeg (pu_g ((pn p (60 * w1 + v3.toNatClampNeg) : Int64).toInt32) 61 (pu_h p w1 (pu_g (v3 + 1) (pm p w1).toNatClampNeg (if (lg_cmp ((ma zc2 3 ((pn p (60 * w1 + v3.toNatClampNeg) : Int64).toInt32 : Int32).toNatClampNeg : Int32).toInt64) (pn p (60 * w1 + (v3 + 1 : Int32).toNatClampNeg))) = 0 then (some (.inl (v3 + 2))) else (some (.inr (.inr (0 : Int32)))))))))))
def fX0_isSeen (p : PS) (z : MS) (a1 : Nat) : Option (Int32) :=
  pu_s (pu_it (fun q => fX0_isSeen_L2 p z a1 q) pu_F ((0 : Int32))) fun ex => some (1 : Int32)
theorem cd_X0_isSeen : yX0_isSeen.cls = RX0 ∧ yX0_isSeen.cls ≠ "java/lang/invoke/MethodHandle" ∧ yX0_isSeen.cls ≠ "java/lang/invoke/VarHandle" ∧ (parseMethodDescriptor yX0_isSeen.desc).map (fun d => d.parameters.length) = some 1 := by decide +kernel
def fX5_adds_L48 (p : PS) (v7 : Int32) (z8 : MS) : Option ((Int32 × MS) ⊕ (MS)) :=
  if (60 : Int32) < v7 then (some (.inr (z8))) else (pu_g v7 61 (pu_g ((13 * v7) + (ma z8 3 v7.toNatClampNeg)) 793 (pu_g ((13 * v7) + (ma z8 3 v7.toNatClampNeg)) 793 (let z18 := msa z8 5 ((13 * v7) + (ma z8 3 v7.toNatClampNeg)) ((ma z8 5 ((13 * v7) + (ma z8 3 v7.toNatClampNeg) : Int32).toNatClampNeg) + 1); some (.inl (v7 + 1, z18))))))
def fX5_adds (p : PS) (z : MS) (a1 : Int32) (a2 : Int32) : Option (MS) :=
  pu_l1 (if (mi z 31) = 0 then ((100 * a1) + a2) else (mi z 33) : Int32) fun v1 => let z4 := msi z 33 v1; let z5 := msi z4 31 ((mi z4 31) + 1); let z6 := msi z5 32 ((mi z5 32) ||| ((1 : Int32) <<< (a1 &&& 31))); pu_b1 (pu_it (fun q => fX5_adds_L48 p q.1 q.2) pu_F ((0 : Int32), z6)) fun z19 => some z19
theorem cd_X5_adds : yX5_adds.cls = RX5 ∧ yX5_adds.cls ≠ "java/lang/invoke/MethodHandle" ∧ yX5_adds.cls ≠ "java/lang/invoke/VarHandle" ∧ (parseMethodDescriptor yX5_adds.desc).map (fun d => d.parameters.length) = some 2 := by decide +kernel
def fX5_asks_L25 (p : PS) (zc12 : MS) (p11 : Int32) (v13 : Int32) (v14 : Int32) : Option ((Int32 × Int32) ⊕ (Int32)) :=
  if (13 : Int32) ≤ v14 then (some (.inr (v13))) else (pu_g ((13 * p11) + v14) 793 (pu_l1 (pu_max v13 (ma zc12 5 ((13 * p11) + v14 : Int32).toNatClampNeg) : Int32) fun v22 => some (.inl (v22, v14 + 1))))
def fX5_asks_L15 (p : PS) (v3 : Int32) (z4 : MS) : Option ((Int32 × MS) ⊕ (MS)) :=
  if (60 : Int32) < v3 then (some (.inr (z4))) else (pu_b1 (pu_it (fun q => fX5_asks_L25 p z4 v3 q.1 q.2) pu_F ((0 : Int32), (0 : Int32))) fun v23 => if v23 < (mi z4 35) then (let z24 := msi z4 34 v3; let z25 := msi z24 35 v23; some (.inl (v3 + 1, z25))) else (some (.inl (v3 + 1, z4))))
def fX5_asks (p : PS) (z : MS) : Option (MS) :=
  let z1 := msi z 34 (-1); let z2 := msi z1 35 (mi z1 31); pu_b1 (pu_it (fun q => fX5_asks_L15 p q.1 q.2) pu_F ((0 : Int32), z2)) fun z26 => some z26
theorem cd_X5_asks : yX5_asks.cls = RX5 ∧ yX5_asks.cls ≠ "java/lang/invoke/MethodHandle" ∧ yX5_asks.cls ≠ "java/lang/invoke/VarHandle" ∧ (parseMethodDescriptor yX5_asks.desc).map (fun d => d.parameters.length) = some 0 := by decide +kernel
def fX5_of_L49 (p : PS) (w16 : Nat) (p17 : Int32) (v18 : Int32) (z19 : MS) : Option ((Int32 × MS) ⊕ (MS)) :=
  if (60 : Int32) < v18 then (some (.inr (z19))) else (pu_b1 (fX4_goes_s p z19 p17 v18) fun z26 => pu_b1 (fX0_isSeen p z26 w16) fun v28 => if v28 = 0 then (some (.inl (v18 + 1, z26))) else (pu_b1 (fX5_adds p z26 p17 v18) fun z30 => some (.inl (v18 + 1, z30))))
def fX5_of_L36 (p : PS) (w7 : Nat) (v8 : Int32) (z9 : MS) : Option ((Int32 × MS) ⊕ (MS)) :=
  if (fX0_reaches p z9) ≤ v8 then (some (.inr (z9))) else (pu_b1 (pu_it (fun q => fX5_of_L49 p w7 v8 q.1 q.2) pu_F ((0 : Int32), z9)) fun z32 => some (.inl (v8 + 1, z32)))
def fX5_of (p : PS) (z : MS) (a1 : Nat) : Option (MS) :=
  pu_b1 (fX3_is p z) fun z1 => let z3 := msi z1 31 0; let z4 := msi z3 32 0; let z5 := msi z4 33 (-1); let z6 := msf z5 5 793 0; pu_b1 (pu_it (fun q => fX5_of_L36 p a1 q.1 q.2) pu_F ((0 : Int32), z6)) fun z33 => pu_b1 (fX5_asks p z33) fun z34 => some z34
theorem cd_X5_of : yX5_of.cls = RX5 ∧ yX5_of.cls ≠ "java/lang/invoke/MethodHandle" ∧ yX5_of.cls ≠ "java/lang/invoke/VarHandle" ∧ (parseMethodDescriptor yX5_of.desc).map (fun d => d.parameters.length) = some 1 := by decide +kernel
def fX0_fits (p : PS) (z : MS) (a1 : Int32) : Option (Int32 × MS) :=
  pu_b1 (fX0_whyNot p z a1) fun v1 => if v1 = 0 then (pu_g a1 4 (pu_b1 (fX5_of p z a1.toNatClampNeg) fun z4 => some (mi z4 31, z4))) else (some (v1, z))
theorem cd_X0_fits : yX0_fits.cls = RX0 ∧ yX0_fits.cls ≠ "java/lang/invoke/MethodHandle" ∧ yX0_fits.cls ≠ "java/lang/invoke/VarHandle" ∧ (parseMethodDescriptor yX0_fits.desc).map (fun d => d.parameters.length) = some 1 := by decide +kernel
def fX0_sources (p : PS) (z : MS) (a1 : Int32) : Option (Int32 × MS) :=
  pu_b1 (fX0_whyNot p z a1) fun v1 => if v1 = 0 then (pu_g a1 4 (pu_b1 (fX5_of p z a1.toNatClampNeg) fun z4 => some (mi z4 32, z4))) else (some (v1, z))
theorem cd_X0_sources : yX0_sources.cls = RX0 ∧ yX0_sources.cls ≠ "java/lang/invoke/MethodHandle" ∧ yX0_sources.cls ≠ "java/lang/invoke/VarHandle" ∧ (parseMethodDescriptor yX0_sources.desc).map (fun d => d.parameters.length) = some 1 := by decide +kernel
def fX0_source (p : PS) (z : MS) (a1 : Int32) : Option (Int32 × MS) :=
  pu_b1 (fX0_whyNot p z a1) fun v1 => if v1 = 0 then (pu_g a1 4 (pu_b1 (fX5_of p z a1.toNatClampNeg) fun z4 => some (mi z4 33, z4))) else (some (v1, z))
theorem cd_X0_source : yX0_source.cls = RX0 ∧ yX0_source.cls ≠ "java/lang/invoke/MethodHandle" ∧ yX0_source.cls ≠ "java/lang/invoke/VarHandle" ∧ (parseMethodDescriptor yX0_source.desc).map (fun d => d.parameters.length) = some 1 := by decide +kernel
def fX0_ask (p : PS) (z : MS) (a1 : Int32) : Option (Int32 × MS) :=
  pu_b1 (fX0_whyNot p z a1) fun v1 => if v1 = 0 then (pu_g a1 4 (pu_b1 (fX5_of p z a1.toNatClampNeg) fun z4 => some (mi z4 34, z4))) else (some (v1, z))
theorem cd_X0_ask : yX0_ask.cls = RX0 ∧ yX0_ask.cls ≠ "java/lang/invoke/MethodHandle" ∧ yX0_ask.cls ≠ "java/lang/invoke/VarHandle" ∧ (parseMethodDescriptor yX0_ask.desc).map (fun d => d.parameters.length) = some 1 := by decide +kernel
def fX0_doubts (p : PS) (z : MS) (a1 : Int32) : Option (Int32 × MS) :=
  pu_b1 (fX0_whyNot p z a1) fun v1 => if v1 = 0 then (pu_g a1 4 (pu_b1 (fX5_of p z a1.toNatClampNeg) fun z4 => some (mi z4 35, z4))) else (some (v1, z))
theorem cd_X0_doubts : yX0_doubts.cls = RX0 ∧ yX0_doubts.cls ≠ "java/lang/invoke/MethodHandle" ∧ yX0_doubts.cls ≠ "java/lang/invoke/VarHandle" ∧ (parseMethodDescriptor yX0_doubts.desc).map (fun d => d.parameters.length) = some 1 := by decide +kernel
def fX0_turnsOf_L52 (p : PS) (w17 : Nat) (p18 : Int32) (v19 : Int32) (z20 : MS) : Option ((Int32 × MS) ⊕ (Int32 × MS)) :=
  if (mi z20 8) ≤ (mi z20 9) then (some (.inr (v19, z20))) else (pu_b1 (fX4_goes_s p z20 p18 (0 : Int32)) fun z27 => pu_b1 (fX0_isSeen p z27 w17) fun v29 => pu_l2 (if v29 = 0 then ((v19, z27)) else (if v19 = 0 then (let z37 := msi z27 4 ((10 * (mi z27 8)) + (mi z27 9)); (v19 + 1, z37)) else (let z36 := msi z27 4 (mi z27 4); (v19 + 1, z36))) : Int32 × MS) fun v31 z32 => let z35 := msi z32 9 ((mi z32 9) + 1); some (.inl (v31, z35)))
def fX0_turnsOf_L32 (p : PS) (w6 : Nat) (p7 : Int32) (v8 : Int32) (z9 : MS) : Option ((Int32 × MS) ⊕ (Int32 × MS)) :=
  if (9 : Int32) < (mi z9 8) then (some (.inr (v8, z9))) else (let z16 := msi z9 9 0; pu_b2 (pu_it (fun q => fX0_turnsOf_L52 p w6 p7 q.1 q.2) pu_F (v8, z16)) fun v38 z39 => let z40 := msi z39 8 ((mi z39 8) + 1); some (.inl (v38, z40)))
def fX0_turnsOf (p : PS) (z : MS) (a1 : Nat) (a2 : Int32) (a3 : Int32) : Option (Int32 × MS) :=
  pu_b1 (fX3_is p z) fun z1 => let z3 := msi z1 7 a2; let z4 := msi z3 4 (-1); let z5 := msi z4 8 1; pu_b2 (pu_it (fun q => fX0_turnsOf_L32 p a1 a3 q.1 q.2) pu_F ((0 : Int32), z5)) fun v41 z42 => some (v41, z42)
theorem cd_X0_turnsOf : yX0_turnsOf.cls = RX0 ∧ yX0_turnsOf.cls ≠ "java/lang/invoke/MethodHandle" ∧ yX0_turnsOf.cls ≠ "java/lang/invoke/VarHandle" ∧ (parseMethodDescriptor yX0_turnsOf.desc).map (fun d => d.parameters.length) = some 3 := by decide +kernel
def fX0_whyNotTurn (p : PS) (z : MS) (a1 : Int32) (a2 : Int32) (a3 : Int32) : Option (Int32) :=
  if (fX0_isJoin p z a2) = 0 then (some ((-2) : Int32)) else (if (fX0_isReach p z a3.toInt64) = 0 then (some ((-2) : Int32)) else (pu_b1 (fX0_whyNot p z a1) fun v1 => some v1))
theorem cd_X0_whyNotTurn : yX0_whyNotTurn.cls = RX0 ∧ yX0_whyNotTurn.cls ≠ "java/lang/invoke/MethodHandle" ∧ yX0_whyNotTurn.cls ≠ "java/lang/invoke/VarHandle" ∧ (parseMethodDescriptor yX0_whyNotTurn.desc).map (fun d => d.parameters.length) = some 3 := by decide +kernel
def fX0_turn (p : PS) (z : MS) (a1 : Int32) (a2 : Int32) (a3 : Int32) : Option (Int32 × MS) :=
  pu_b1 (fX0_whyNotTurn p z a1 a2 a3) fun v1 => if v1 = 0 then (pu_g a1 4 (pu_b2 (fX0_turnsOf p z a1.toNatClampNeg a2 a3) fun v4 z5 => some (v4, z5))) else (some (v1, z))
theorem cd_X0_turn : yX0_turn.cls = RX0 ∧ yX0_turn.cls ≠ "java/lang/invoke/MethodHandle" ∧ yX0_turn.cls ≠ "java/lang/invoke/VarHandle" ∧ (parseMethodDescriptor yX0_turn.desc).map (fun d => d.parameters.length) = some 3 := by decide +kernel
def fX0_turned (p : PS) (z : MS) (a1 : Int32) (a2 : Int32) (a3 : Int32) : Option (Int32 × MS) :=
  pu_b1 (fX0_whyNotTurn p z a1 a2 a3) fun v1 => if v1 = 0 then (pu_g a1 4 (pu_b2 (fX0_turnsOf p z a1.toNatClampNeg a2 a3) fun v4 z5 => some (mi z5 4, z5))) else (some (v1, z))
theorem cd_X0_turned : yX0_turned.cls = RX0 ∧ yX0_turned.cls ≠ "java/lang/invoke/MethodHandle" ∧ yX0_turned.cls ≠ "java/lang/invoke/VarHandle" ∧ (parseMethodDescriptor yX0_turned.desc).map (fun d => d.parameters.length) = some 3 := by decide +kernel
def fX0_isRest_L2 (p1 : Int32) (p2 : Int32) (v3 : Int32) : Option ((Int32) ⊕ ((Unit) ⊕ (Int32))) :=
  if (4 : Int32) < v3 then (some (.inr (.inl ()))) else (if (fX0_hasOf p1 p2) < (fX0_hasOf v3 p2) then (some (.inr (.inr (0 : Int32)))) else (if (fX0_hasOf v3 p1) ≤ (fX0_hasOf p2 p1) then (some (.inl (v3 + 1))) else (some (.inr (.inr (0 : Int32))))))
def fX0_isRest (a1 : Int32) (a2 : Int32) : Option (Int32) :=
  pu_s (pu_it (fun q => fX0_isRest_L2 a1 a2 q) pu_F ((0 : Int32))) fun ex => some (1 : Int32)
theorem cd_X0_isRest : yX0_isRest.cls ≠ "java/lang/invoke/MethodHandle" ∧ yX0_isRest.cls ≠ "java/lang/invoke/VarHandle" ∧ (parseMethodDescriptor yX0_isRest.desc).map (fun d => d.parameters.length) = some 2 := by decide +kernel
def fX0_rests_L11 (p : PS) (zc11 : MS) (p10 : Int32) (v12 : Int32) (v13 : Int32) : Option ((Int32 × Int32) ⊕ (Int32)) :=
  if (4 : Int32) < v13 then (some (.inr (v12))) else (pu_b1 (fX0_isRest p10 v13) fun v20 => if v20 = 0 then (pu_l1 (v12 + 0 : Int32) fun v22 => some (.inl (v22, v13 + 1))) else (pu_l1 (v12 + 1 : Int32) fun v23 => some (.inl (v23, v13 + 1))))
def fX0_rests_L4 (p : PS) (zc1 : MS) (v2 : Int32) (v3 : Int32) : Option ((Int32 × Int32) ⊕ (Int32)) :=
  if (4 : Int32) < v3 then (some (.inr (v2))) else (pu_b1 (pu_it (fun q => fX0_rests_L11 p zc1 v3 q.1 q.2) pu_F (v2, (0 : Int32))) fun v24 => some (.inl (v24, v3 + 1)))
def fX0_rests (p : PS) (z : MS) : Option (Int32) :=
  pu_b1 (pu_it (fun q => fX0_rests_L4 p z q.1 q.2) pu_F ((0 : Int32), (0 : Int32))) fun v25 => some v25
theorem cd_X0_rests : yX0_rests.cls = RX0 ∧ yX0_rests.cls ≠ "java/lang/invoke/MethodHandle" ∧ yX0_rests.cls ≠ "java/lang/invoke/VarHandle" ∧ (parseMethodDescriptor yX0_rests.desc).map (fun d => d.parameters.length) = some 0 := by decide +kernel
def fX0_rest_L9 (p : PS) (zc10 : MS) (p9 : Int32) (v11 : Int32) : Option ((Int32) ⊕ ((Unit) ⊕ ((Int32) ⊕ ((Unit) ⊕ (Int32))))) :=
  if (4 : Int32) < v11 then (some (.inr (.inl ()))) else (pu_b1 (fX0_isRest p9 v11) fun v18 => if v18 = 0 then (some (.inl (v11 + 1))) else (some (.inr (.inr (.inr (.inr ((10 * p9) + v11)))))))
def fX0_rest_L2 (p : PS) (zc1 : MS) (v2 : Int32) : Option ((Int32) ⊕ ((Unit) ⊕ (Int32))) :=
  if (4 : Int32) < v2 then (some (.inr (.inl ()))) else (pu_s (pu_it (fun q => fX0_rest_L9 p zc1 v2 q) pu_F ((0 : Int32))) fun ex => some (.inl (v2 + 1)))
def fX0_rest (p : PS) (z : MS) : Option (Int32) :=
  pu_s (pu_it (fun q => fX0_rest_L2 p z q) pu_F ((0 : Int32))) fun ex => some ((-1) : Int32)
theorem cd_X0_rest : yX0_rest.cls = RX0 ∧ yX0_rest.cls ≠ "java/lang/invoke/MethodHandle" ∧ yX0_rest.cls ≠ "java/lang/invoke/VarHandle" ∧ (parseMethodDescriptor yX0_rest.desc).map (fun d => d.parameters.length) = some 0 := by decide +kernel
def fX0_has (p : PS) (z : MS) (a1 : Int32) (a2 : Int32) : Int32 :=
  if (fX0_in a1.toInt64 (0 : Int64) (4 : Int64)) = 0 then (((-1000) : Int32)) else (if (fX0_in a2.toInt64 (0 : Int64) (4 : Int64)) = 0 then (((-1000) : Int32)) else (fX0_hasOf a1 a2))
theorem cd_X0_has : yX0_has.cls = RX0 ∧ yX0_has.cls ≠ "java/lang/invoke/MethodHandle" ∧ yX0_has.cls ≠ "java/lang/invoke/VarHandle" ∧ (parseMethodDescriptor yX0_has.desc).map (fun d => d.parameters.length) = some 2 := by decide +kernel
def fX0_treaty_L13 (p : PS) (zc11 : MS) (p10 : Int32) (v12 : Int32) (v13 : Int32) : Option ((Int32 × Int32) ⊕ (Int32)) :=
  if (4 : Int32) < v13 then (some (.inr (v12))) else (pu_l1 (pu_max v12 ((fX0_hasOf p10 v13) + (fX0_hasOf v13 p10)) : Int32) fun v20 => some (.inl (v20, v13 + 1)))
def fX0_treaty_L6 (p : PS) (zc1 : MS) (v2 : Int32) (v3 : Int32) : Option ((Int32 × Int32) ⊕ (Int32)) :=
  if (4 : Int32) < v3 then (some (.inr (v2))) else (pu_b1 (pu_it (fun q => fX0_treaty_L13 p zc1 v3 q.1 q.2) pu_F (v2, (0 : Int32))) fun v21 => some (.inl (v21, v3 + 1)))
def fX0_treaty (p : PS) (z : MS) : Option (Int32) :=
  pu_b1 (pu_it (fun q => fX0_treaty_L6 p z q.1 q.2) pu_F (((-1000) : Int32), (0 : Int32))) fun v22 => some v22
theorem cd_X0_treaty : yX0_treaty.cls = RX0 ∧ yX0_treaty.cls ≠ "java/lang/invoke/MethodHandle" ∧ yX0_treaty.cls ≠ "java/lang/invoke/VarHandle" ∧ (parseMethodDescriptor yX0_treaty.desc).map (fun d => d.parameters.length) = some 0 := by decide +kernel
def fX0_weightFrom_L5 (p : PS) (zc1 : MS) (v2 : Int64) (v3 : Int32) : Option ((Int64 × Int32) ⊕ (Int64)) :=
  if (2000 : Int32) ≤ v3 then (some (.inr (v2))) else (pu_g v3 2000 (pu_l1 (v2 + (ml zc1 0 v3.toNatClampNeg) : Int64) fun v11 => some (.inl (v11, v3 + 1))))
def fX0_weightFrom (p : PS) (z : MS) (a1 : Int32) : Option (Int64) :=
  pu_b1 (pu_it (fun q => fX0_weightFrom_L5 p z q.1 q.2) pu_F ((0 : Int64), a1)) fun v12 => some v12
theorem cd_X0_weightFrom : yX0_weightFrom.cls = RX0 ∧ yX0_weightFrom.cls ≠ "java/lang/invoke/MethodHandle" ∧ yX0_weightFrom.cls ≠ "java/lang/invoke/VarHandle" ∧ (parseMethodDescriptor yX0_weightFrom.desc).map (fun d => d.parameters.length) = some 1 := by decide +kernel
def fX0_chance (p : PS) (z : MS) (a1 : Int32) (a2 : Int32) (a3 : Int32) : Option (Int64 × MS) :=
  if (fX2_is p) = 0 then (some (((-2) : Int64), z)) else (if (fX0_in a1.toInt64 (0 : Int64) (14 : Int64)) = 0 then (some (((-2) : Int64), z)) else (if (fX0_in a2.toInt64 (0 : Int64) (99 : Int64)) = 0 then (some (((-2) : Int64), z)) else (if (fX0_isBit a3) = 0 then (some (((-2) : Int64), z)) else (pu_b1 (fX0_laysLikely p z a1) fun z1 => pu_b1 (fX0_weightFrom p z1 a2) fun v3 => pu_b1 (fX0_power (10 : Int64) a1) fun v5 => if a3 = 0 then (pu_b1 (fX0_common v3 v5) fun v10 => pu_zl v10 (some (v3 / v10, z1))) else (pu_b1 (fX0_common v3 v5) fun v7 => pu_zl v7 (some (v5 / v7, z1)))))))
theorem cd_X0_chance : yX0_chance.cls = RX0 ∧ yX0_chance.cls ≠ "java/lang/invoke/MethodHandle" ∧ yX0_chance.cls ≠ "java/lang/invoke/VarHandle" ∧ (parseMethodDescriptor yX0_chance.desc).map (fun d => d.parameters.length) = some 3 := by decide +kernel
def fX0_risk_L26 (p : PS) (p1 : Int32) (p2 : Int32) (v3 : Int32) (z4 : MS) : Option ((Int32 × MS) ⊕ ((MS) ⊕ (Int32 × MS))) :=
  if (14 : Int32) < v3 then (some (.inr (.inl (z4)))) else (pu_b1 (fX0_laysLikely p z4 v3) fun z11 => pu_b1 (fX0_power (10 : Int64) v3) fun v13 => pu_b0 (fX0_one p z11 p1) (pu_b1 (fX0_weightFrom p z11 (pw p (10 + 3 * p1.toNatClampNeg))) fun v16 => if (lg_cmp (100 * (v13 - v16)) (p2.toInt64 * v13)) < 0 then (some (.inl (v3 + 1, z11))) else (some (.inr (.inr (v3, z11))))))
def fX0_risk (p : PS) (z : MS) (a1 : Int32) (a2 : Int32) : Option (Int32 × MS) :=
  if (fX0_isReach p z a1.toInt64) = 0 then (some (((-2) : Int32), z)) else (if (fX0_in a2.toInt64 (0 : Int64) (100 : Int64)) = 0 then (some (((-2) : Int32), z)) else (pu_s (pu_it (fun q => fX0_risk_L26 p a1 a2 q.1 q.2) pu_F ((0 : Int32), z)) fun ex => pu_l1 ex fun z18 => some (((-1) : Int32), z18)))
theorem cd_X0_risk : yX0_risk.cls = RX0 ∧ yX0_risk.cls ≠ "java/lang/invoke/MethodHandle" ∧ yX0_risk.cls ≠ "java/lang/invoke/VarHandle" ∧ (parseMethodDescriptor yX0_risk.desc).map (fun d => d.parameters.length) = some 2 := by decide +kernel
def fX0_isSeed (a1 : Int32) : Int32 :=
  vp_nar .boolean (fX0_in a1.toInt64 (0 : Int64) (2000000000 : Int64))
theorem cd_X0_isSeed : yX0_isSeed.cls ≠ "java/lang/invoke/MethodHandle" ∧ yX0_isSeed.cls ≠ "java/lang/invoke/VarHandle" ∧ (parseMethodDescriptor yX0_isSeed.desc).map (fun d => d.parameters.length) = some 1 := by decide +kernel
def fX3_draws_L10 (p : PS) (v3 : Int64) (v4 : Int32) (z5 : MS) : Option ((Int64 × Int32 × MS) ⊕ (MS)) :=
  if (60 : Int32) < v4 then (some (.inr (z5))) else (pu_l1 (((1103515245 * v3) + 12345) - ((1103515245 * v3) + 12345) / 2147483648 * 2147483648 : Int64) fun v12 => if (lg_cmp ((v12 / 65536) - (v12 / 65536) / 10 * 10) ((pw p 1 : Int32).toInt64)) < 0 then (pu_g v4 61 (pu_g v4 61 (let z15 := msa z5 2 v4 ((ma z5 2 v4.toNatClampNeg) + (pw p 2)); let z16 := msi z15 10 ((mi z15 10) + 1); some (.inl (v12, v4 + 1, z16))))) else (some (.inl (v12, v4 + 1, z5))))
def fX3_draws (p : PS) (z : MS) (a1 : Int64) : Option (MS) :=
  pu_b1 (fX3_is p z) fun z1 => pu_b1 (pu_it (fun q => fX3_draws_L10 p q.1 q.2.1 q.2.2) pu_F (a1, (1 : Int32), z1)) fun z17 => pu_b1 (fX3_flows p z17) fun z18 => some z18
theorem cd_X3_draws : yX3_draws.cls = RX3 ∧ yX3_draws.cls ≠ "java/lang/invoke/MethodHandle" ∧ yX3_draws.cls ≠ "java/lang/invoke/VarHandle" ∧ (parseMethodDescriptor yX3_draws.desc).map (fun d => d.parameters.length) = some 1 := by decide +kernel
def fX0_drawn (p : PS) (z : MS) (a1 : Int32) (a2 : Int32) : Option (Int32 × MS) :=
  if (fX2_is p) = 0 then (some (((-2) : Int32), z)) else (if (fX0_isSeed a1) = 0 then (some (((-2) : Int32), z)) else (if (fX0_isBit a2) = 0 then (some (((-2) : Int32), z)) else (pu_b1 (fX3_draws p z a1.toInt64) fun z1 => if a2 = 0 then (some (ma z1 1 (60 : Int32).toNatClampNeg, z1)) else (some (mi z1 10, z1)))))
theorem cd_X0_drawn : yX0_drawn.cls = RX0 ∧ yX0_drawn.cls ≠ "java/lang/invoke/MethodHandle" ∧ yX0_drawn.cls ≠ "java/lang/invoke/VarHandle" ∧ (parseMethodDescriptor yX0_drawn.desc).map (fun d => d.parameters.length) = some 2 := by decide +kernel
def fX0_luck_L37 (p : PS) (p1 : Int32) (p2 : Int32) (p3 : Int32) (v4 : Int32) (v5 : Int32) (z6 : MS) : Option ((Int32 × Int32 × MS) ⊕ (Int32 × MS)) :=
  if p2 ≤ v5 then (some (.inr (v4, z6))) else (pu_b1 (fX3_draws p z6 (p1.toInt64 + v5.toInt64)) fun z13 => pu_b1 (fX4_goes_s p z13 p3 (0 : Int32)) fun z15 => pu_b1 (fX4_first_s p z15 (10 : Int32)) fun v17 => if v17 = (-1) then (pu_l1 (v4 + 0 : Int32) fun v20 => some (.inl (v20, v5 + 1, z15))) else (pu_l1 (v4 + 1 : Int32) fun v19 => some (.inl (v19, v5 + 1, z15))))
def fX0_luck (p : PS) (z : MS) (a1 : Int32) (a2 : Int32) (a3 : Int32) : Option (Int32 × MS) :=
  if (fX0_isSeed a1) = 0 then (some (((-2) : Int32), z)) else (if (fX0_in a2.toInt64 (1 : Int64) (20 : Int64)) = 0 then (some (((-2) : Int32), z)) else (if (fX0_isReach p z a3.toInt64) = 0 then (some (((-2) : Int32), z)) else (pu_b2 (pu_it (fun q => fX0_luck_L37 p a1 a2 a3 q.1 q.2.1 q.2.2) pu_F ((0 : Int32), (0 : Int32), z)) fun v21 z22 => some (v21, z22))))
theorem cd_X0_luck : yX0_luck.cls = RX0 ∧ yX0_luck.cls ≠ "java/lang/invoke/MethodHandle" ∧ yX0_luck.cls ≠ "java/lang/invoke/VarHandle" ∧ (parseMethodDescriptor yX0_luck.desc).map (fun d => d.parameters.length) = some 3 := by decide +kernel
def fX0_count_L151 (p : PS) (zc11 : MS) (v12 : Int32) (v13 : Int32) : Option ((Int32 × Int32) ⊕ (Int32)) :=
  if (4 : Int32) ≤ v13 then (some (.inr (v12))) else (pu_g v13 4 (if pm p v13.toNatClampNeg = -1 then (pu_l1 (v12 + 0 : Int32) fun v22 => some (.inl (v22, v13 + 1))) else (pu_l1 (v12 + 1 : Int32) fun v21 => some (.inl (v21, v13 + 1)))))
def fX0_count (p : PS) (z : MS) (a1 : Int32) : Option (Int32) :=
  if a1 = 0 then (some (pw p 0)) else (if a1 = 1 then (some (pw p 1)) else (if a1 = 2 then (some (pw p 2)) else (if a1 = 3 then (some (fX0_reaches p z)) else (if a1 = 4 then (some (pw p 4)) else (if a1 = 5 then (some (pw p 5)) else (if a1 = 6 then (some (pw p 6)) else (if a1 = 7 then (some (pw p 7)) else (if a1 = 8 then (some (mi z 0)) else (if a1 = 9 then (pu_b1 (pu_it (fun q => fX0_count_L151 p z q.1 q.2) pu_F ((0 : Int32), (0 : Int32))) fun v23 => some v23) else (some ((-1) : Int32)))))))))))
theorem cd_X0_count : yX0_count.cls = RX0 ∧ yX0_count.cls ≠ "java/lang/invoke/MethodHandle" ∧ yX0_count.cls ≠ "java/lang/invoke/VarHandle" ∧ (parseMethodDescriptor yX0_count.desc).map (fun d => d.parameters.length) = some 1 := by decide +kernel
