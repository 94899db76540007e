/-! MODEL, part 2: wraps, partings, the bench -/
/-- Integer.bitCount -/
def bc1 (x : Int32) : Int32 := x - (jushr x 1 &&& 1431655765)
def bc2 (x : Int32) : Int32 := (x &&& 858993459) + (jushr x 2 &&& 858993459)
def bc3 (x : Int32) : Int32 := (x + jushr x 4) &&& 252645135
def bc4 (x : Int32) : Int32 := x + jushr x 8
def bc5 (x : Int32) : Int32 := x + jushr x 16
def bitc (x : Int32) : Int32 := bc5 (bc4 (bc3 (bc2 (bc1 x)))) &&& 63
def fmod (x y : Int32) : Int32 := if (x ^^^ y) < 0 ∧ ¬ jrem x y = 0 then jrem x y + y else jrem x y
def imax (x y : Int32) : Int32 := if x < y then y else x
def imin (x y : Int32) : Int32 := if y < x then y else x
def iabs (x : Int32) : Int32 := if x < 0 then -x else x

set_option maxHeartbeats 4000000 in
set_option maxRecDepth 100000 in
theorem c_J5_bitCount (l : Launch) (D : gD) (B : Nat × Nat) (h : gHp) (n : Nat) (x : Int32)  : Con l yJ5_bitCount (ws_ yJ5_bitCount cJ5_bitCount 1 (some .int)) ({ frames := 0, cells := 0, slots := 0, locals := 0 }) D B [.int x] h n (gdt (some (.int (bitc x))) h n) 0 0 := by
  refine Con.begin [some (.int x)] rfl rfl (Nat.le_of_ble_eq_true rfl) rfl rfl (fun X C R => ?_)
  refine g_iload_n C (pc := 0) dJ5_bitCount_0 rfl ?_
  refine g_iload_n C (pc := 1) dJ5_bitCount_1 rfl ?_
  refine g_iconst C (pc := 2) (v := 1) dJ5_bitCount_2 (by decide) ?_
  refine g_iushr C (pc := 3) (v := jushr x 1) dJ5_bitCount_3 rfl ?_
  refine g_ldc_w C (pc := 4) dJ5_bitCount_4 q547 ?_
  refine g_iand C (pc := 7) dJ5_bitCount_7 ?_
  refine g_isub C (pc := 8) dJ5_bitCount_8 ?_
  refine G.topi (fun x_9 e_x_9 => ?_)
  have e_x_9 : x_9 = x - ((jushr x 1) &&& 1431655765) := e_x_9
  refine g_istore_n C (pc := 9) (L' := [some (.int x_9)]) dJ5_bitCount_9 (by decide) rfl rfl ?_
  refine g_iload_n C (pc := 10) dJ5_bitCount_10 rfl ?_
  refine g_ldc_w C (pc := 11) dJ5_bitCount_11 q548 ?_
  refine g_iand C (pc := 14) dJ5_bitCount_14 ?_
  refine g_iload_n C (pc := 15) dJ5_bitCount_15 rfl ?_
  refine g_iconst C (pc := 16) (v := 2) dJ5_bitCount_16 (by decide) ?_
  refine g_iushr C (pc := 17) (v := jushr x_9 2) dJ5_bitCount_17 rfl ?_
  refine g_ldc_w C (pc := 18) dJ5_bitCount_18 q548 ?_
  refine g_iand C (pc := 21) dJ5_bitCount_21 ?_
  refine g_iadd C (pc := 22) dJ5_bitCount_22 ?_
  refine G.topi (fun x_23 e_x_23 => ?_)
  have e_x_23 : x_23 = (x_9 &&& 858993459) + ((jushr x_9 2) &&& 858993459) := e_x_23
  refine g_istore_n C (pc := 23) (L' := [some (.int x_23)]) dJ5_bitCount_23 (by decide) rfl rfl ?_
  refine g_iload_n C (pc := 24) dJ5_bitCount_24 rfl ?_
  refine g_iload_n C (pc := 25) dJ5_bitCount_25 rfl ?_
  refine g_iconst C (pc := 26) (v := 4) dJ5_bitCount_26 (by decide) ?_
  refine g_iushr C (pc := 27) (v := jushr x_23 4) dJ5_bitCount_27 rfl ?_
  refine g_iadd C (pc := 28) dJ5_bitCount_28 ?_
  refine g_ldc_w C (pc := 29) dJ5_bitCount_29 q549 ?_
  refine g_iand C (pc := 32) dJ5_bitCount_32 ?_
  refine G.topi (fun x_33 e_x_33 => ?_)
  have e_x_33 : x_33 = (x_23 + (jushr x_23 4)) &&& 252645135 := e_x_33
  refine g_istore_n C (pc := 33) (L' := [some (.int x_33)]) dJ5_bitCount_33 (by decide) rfl rfl ?_
  refine g_iload_n C (pc := 34) dJ5_bitCount_34 rfl ?_
  refine g_iload_n C (pc := 35) dJ5_bitCount_35 rfl ?_
  refine g_bipush C (pc := 36) (v := 8) dJ5_bitCount_36 (by decide) ?_
  refine g_iushr C (pc := 38) (v := jushr x_33 8) dJ5_bitCount_38 rfl ?_
  refine g_iadd C (pc := 39) dJ5_bitCount_39 ?_
  refine G.topi (fun x_40 e_x_40 => ?_)
  have e_x_40 : x_40 = x_33 + (jushr x_33 8) := e_x_40
  refine g_istore_n C (pc := 40) (L' := [some (.int x_40)]) dJ5_bitCount_40 (by decide) rfl rfl ?_
  refine g_iload_n C (pc := 41) dJ5_bitCount_41 rfl ?_
  refine g_iload_n C (pc := 42) dJ5_bitCount_42 rfl ?_
  refine g_bipush C (pc := 43) (v := 16) dJ5_bitCount_43 (by decide) ?_
  refine g_iushr C (pc := 45) (v := jushr x_40 16) dJ5_bitCount_45 rfl ?_
  refine g_iadd C (pc := 46) dJ5_bitCount_46 ?_
  refine G.topi (fun x_47 e_x_47 => ?_)
  have e_x_47 : x_47 = x_40 + (jushr x_40 16) := e_x_47
  refine g_istore_n C (pc := 47) (L' := [some (.int x_47)]) dJ5_bitCount_47 (by decide) rfl rfl ?_
  refine g_iload_n C (pc := 48) dJ5_bitCount_48 rfl ?_
  refine g_bipush C (pc := 49) (v := 63) dJ5_bitCount_49 (by decide) ?_
  refine g_iand C (pc := 51) dJ5_bitCount_51 ?_
  exact g_iretD C R dJ5_bitCount_52 (Nat.le_refl _) (Nat.le_refl _) (by rw [e_x_47, e_x_40, e_x_33, e_x_23, e_x_9]; rfl) rfl rfl
theorem ds_J5_bitCount : yJ5_bitCount.cls ≠ "java/lang/invoke/MethodHandle" ∧ yJ5_bitCount.cls ≠ "java/lang/invoke/VarHandle" ∧ (parseMethodDescriptor yJ5_bitCount.desc).map (fun d => d.parameters.length) = some 1 := by decide +kernel
set_option maxHeartbeats 4000000 in
set_option maxRecDepth 100000 in
theorem c_J2_floorMod (l : Launch) (D : gD) (B : Nat × Nat) (h : gHp) (n : Nat) (x : Int32) (y : Int32) (hy : ¬ y = 0) : Con l yJ2_floorMod (ws_ yJ2_floorMod cJ2_floorMod 3 (some .int)) ({ frames := 0, cells := 0, slots := 0, locals := 0 }) D B [.int x, .int y] h n (gdt (some (.int (fmod x y))) h n) 0 0 := by
  refine Con.begin [some (.int x), some (.int y), none] rfl (by decide +kernel) (Nat.le_of_ble_eq_true rfl) rfl rfl (fun X C R => ?_)
  refine g_iload_n C (pc := 0) dJ2_floorMod_0 rfl ?_
  refine g_iload_n C (pc := 1) dJ2_floorMod_1 rfl ?_
  refine g_irem C (pc := 2) dJ2_floorMod_2 hy ?_
  refine G.topi (fun x_3 e_x_3 => ?_)
  have e_x_3 : x_3 = jrem x y := e_x_3
  refine g_istore_n C (pc := 3) (L' := [some (.int x), some (.int y), some (.int x_3)]) dJ2_floorMod_3 (by decide) rfl rfl ?_
  refine g_iload_n C (pc := 4) dJ2_floorMod_4 rfl ?_
  refine g_iload_n C (pc := 5) dJ2_floorMod_5 rfl ?_
  refine g_ixor C (pc := 6) dJ2_floorMod_6 ?_
  refine g_if_ge C (pc := 7) (tgt := 18) dJ2_floorMod_7 (by decide) (fun c_7 => ?_) (fun c_7 => ?_)
  · skip
    refine g_iload_n C (pc := 18) dJ2_floorMod_18 rfl ?_
    exact g_iretD C R dJ2_floorMod_19 (Nat.le_refl _) (Nat.le_refl _) (by rw [e_x_3]; unfold fmod; rw [if_neg (by grind)]) rfl rfl
  · skip
    refine g_iload_n C (pc := 10) dJ2_floorMod_10 rfl ?_
    refine g_if_eq C (pc := 11) (tgt := 18) dJ2_floorMod_11 (by decide) (fun c_11 => ?_) (fun c_11 => ?_)
    · skip
      refine g_iload_n C (pc := 18) dJ2_floorMod_18 rfl ?_
      exact g_iretD C R dJ2_floorMod_19 (Nat.le_refl _) (Nat.le_refl _) (by rw [e_x_3]; unfold fmod; rw [if_neg (by grind)]) rfl rfl
    · skip
      refine g_iload_n C (pc := 14) dJ2_floorMod_14 rfl ?_
      refine g_iload_n C (pc := 15) dJ2_floorMod_15 rfl ?_
      refine g_iadd C (pc := 16) dJ2_floorMod_16 ?_
      exact g_iretD C R dJ2_floorMod_17 (Nat.le_refl _) (Nat.le_refl _) (by rw [e_x_3] at c_11 ⊢; unfold fmod; rw [if_pos ⟨c_7, c_11⟩]) rfl rfl
theorem ds_J2_floorMod : yJ2_floorMod.cls ≠ "java/lang/invoke/MethodHandle" ∧ yJ2_floorMod.cls ≠ "java/lang/invoke/VarHandle" ∧ (parseMethodDescriptor yJ2_floorMod.desc).map (fun d => d.parameters.length) = some 2 := by decide +kernel
set_option maxHeartbeats 4000000 in
set_option maxRecDepth 100000 in
theorem c_J2_max (l : Launch) (D : gD) (B : Nat × Nat) (h : gHp) (n : Nat) (x : Int32) (y : Int32)  : Con l yJ2_max (ws_ yJ2_max cJ2_max 2 (some .int)) ({ frames := 0, cells := 0, slots := 0, locals := 0 }) D B [.int x, .int y] h n (gdt (some (.int (imax x y))) h n) 0 0 := by
  refine Con.begin [some (.int x), some (.int y)] rfl (by decide +kernel) (Nat.le_of_ble_eq_true rfl) rfl rfl (fun X C R => ?_)
  refine g_iload_n C (pc := 0) dJ2_max_0 rfl ?_
  refine g_iload_n C (pc := 1) dJ2_max_1 rfl ?_
  refine g_icmp_lt C (pc := 2) (tgt := 9) dJ2_max_2 (by decide) (fun c_2 => ?_) (fun c_2 => ?_)
  · skip
    have c_2 : ((x) : Int32) < y := c_2
    refine g_iload_n C (pc := 9) dJ2_max_9 rfl ?_
    exact g_iretD C R dJ2_max_10 (Nat.le_refl _) (Nat.le_refl _) (by unfold imax; grind) rfl rfl
  · skip
    have c_2 : ¬ ((x) : Int32) < y := c_2
    refine g_iload_n C (pc := 5) dJ2_max_5 rfl ?_
    refine g_goto C (pc := 6) (tgt := 10) dJ2_max_6 (by decide) ?_
    exact g_iretD C R dJ2_max_10 (Nat.le_refl _) (Nat.le_refl _) (by unfold imax; grind) rfl rfl
theorem ds_J2_max : yJ2_max.cls ≠ "java/lang/invoke/MethodHandle" ∧ yJ2_max.cls ≠ "java/lang/invoke/VarHandle" ∧ (parseMethodDescriptor yJ2_max.desc).map (fun d => d.parameters.length) = some 2 := by decide +kernel
set_option maxHeartbeats 4000000 in
set_option maxRecDepth 100000 in
theorem c_J2_min (l : Launch) (D : gD) (B : Nat × Nat) (h : gHp) (n : Nat) (x : Int32) (y : Int32)  : Con l yJ2_min (ws_ yJ2_min cJ2_min 2 (some .int)) ({ frames := 0, cells := 0, slots := 0, locals := 0 }) D B [.int x, .int y] h n (gdt (some (.int (imin x y))) h n) 0 0 := by
  refine Con.begin [some (.int x), some (.int y)] rfl (by decide +kernel) (Nat.le_of_ble_eq_true rfl) rfl rfl (fun X C R => ?_)
  refine g_iload_n C (pc := 0) dJ2_min_0 rfl ?_
  refine g_iload_n C (pc := 1) dJ2_min_1 rfl ?_
  refine g_icmp_gt C (pc := 2) (tgt := 9) dJ2_min_2 (by decide) (fun c_2 => ?_) (fun c_2 => ?_)
  · skip
    have c_2 : ((y) : Int32) < x := c_2
    refine g_iload_n C (pc := 9) dJ2_min_9 rfl ?_
    exact g_iretD C R dJ2_min_10 (Nat.le_refl _) (Nat.le_refl _) (by unfold imin; grind) rfl rfl
  · skip
    have c_2 : ¬ ((y) : Int32) < x := c_2
    refine g_iload_n C (pc := 5) dJ2_min_5 rfl ?_
    refine g_goto C (pc := 6) (tgt := 10) dJ2_min_6 (by decide) ?_
    exact g_iretD C R dJ2_min_10 (Nat.le_refl _) (Nat.le_refl _) (by unfold imin; grind) rfl rfl
theorem ds_J2_min : yJ2_min.cls ≠ "java/lang/invoke/MethodHandle" ∧ yJ2_min.cls ≠ "java/lang/invoke/VarHandle" ∧ (parseMethodDescriptor yJ2_min.desc).map (fun d => d.parameters.length) = some 2 := by decide +kernel
set_option maxHeartbeats 4000000 in
set_option maxRecDepth 100000 in
theorem c_J2_abs (l : Launch) (D : gD) (B : Nat × Nat) (h : gHp) (n : Nat) (x : Int32)  : Con l yJ2_abs (ws_ yJ2_abs cJ2_abs 1 (some .int)) ({ frames := 0, cells := 0, slots := 0, locals := 0 }) D B [.int x] h n (gdt (some (.int (iabs x))) h n) 0 0 := by
  refine Con.begin [some (.int x)] rfl (by decide +kernel) (Nat.le_of_ble_eq_true rfl) rfl rfl (fun X C R => ?_)
  refine g_iload_n C (pc := 0) dJ2_abs_0 rfl ?_
  refine g_if_ge C (pc := 1) (tgt := 9) dJ2_abs_1 (by decide) (fun c_1 => ?_) (fun c_1 => ?_)
  · skip
    refine g_iload_n C (pc := 9) dJ2_abs_9 rfl ?_
    exact g_iretD C R dJ2_abs_10 (Nat.le_refl _) (Nat.le_refl _) (by unfold iabs; grind) rfl rfl
  · skip
    refine g_iload_n C (pc := 4) dJ2_abs_4 rfl ?_
    refine g_ineg C (pc := 5) dJ2_abs_5 ?_
    refine g_goto C (pc := 6) (tgt := 10) dJ2_abs_6 (by decide) ?_
    exact g_iretD C R dJ2_abs_10 (Nat.le_refl _) (Nat.le_refl _) (by unfold iabs; grind) rfl rfl
theorem ds_J2_abs : yJ2_abs.cls ≠ "java/lang/invoke/MethodHandle" ∧ yJ2_abs.cls ≠ "java/lang/invoke/VarHandle" ∧ (parseMethodDescriptor yJ2_abs.desc).map (fun d => d.parameters.length) = some 1 := by decide +kernel
def lcg (y : Int64) : Int64 := y * 6364136223846793005 + 1442695040888963407
def drawn (y : Int64) (m : Int32) : Int32 := (jlrem (jlushr y 33) m.toInt64).toInt32
def lcgN (y : Int64) : Nat → Int64
  | 0 => y
  | i + 1 => lcg (lcgN y i)
def inv (v : Int32) : Int32 := pwr v 1019 1017
def wgt (i set : Int32) : Nat → Int32
  | 0 => 1
  | k + 1 => if ¬ nI k = i ∧ (set >>> (nI k &&& 31)) &&& 1 = 1 then jrem (jrem (wgt i set k * nI (k + 1)) 1019 * inv (fmod (nI k - i) 1019)) 1019 else wgt i set k
def weight (i set : Int32) : Int32 := wgt i set 12
/-- the need of a parting -/
def needN (S : MS) (p : Int32) : Nat := ((S.2.1 38) p.toNatClampNeg).toNatClampNeg
def curveA (S : MS) (p : Int32) (j : Nat) : Int32 := (S.2.1 41) (12 * p + nI j).toNatClampNeg
theorem need_ok {S : MS} (hS : MOK S) {p : Int32} (hp : isParting S p) : (S.2.1 38) p.toNatClampNeg = nI (needN S p) ∧ needN S p ≤ 12 ∧ 1 ≤ needN S p ∧ vp_in ((S.2.1 36) p.toNatClampNeg) 40 := by
  obtain ⟨j, hj, rfl⟩ := rng_nat hS.c30.1 (by have := hS.c30.2; omega) hp
  have h30 := hS.c30.2
  obtain ⟨-, q, hq1, hq, e⟩ := hS.part j hj
  unfold needN
  have hk := (hS.part j hj).1
  rw [nI_clamp (by omega), e, nI_clamp (by omega)]
  exact ⟨rfl, hq, hq1, hk⟩
theorem curve_in {S : MS} (hS : MOK S) {p : Int32} (hp : isParting S p) {j : Nat} (hj : j < 12) : vp_in (12 * p + nI j) 480 := by
  obtain ⟨i, hi, rfl⟩ := rng_nat hS.c30.1 (by have := hS.c30.2; omega) hp
  have h30 := hS.c30.2
  have e : (12 : Int32) * nI i + nI j = nI (12 * i + j) := by
    rw [show (12 : Int32) = nI 12 from rfl, pk_mul, nI_add]
  rw [e]
  exact vp_in_nI (by omega) (by decide)
/-- Horner from the top: i steps of d -/
def horn (c : Nat → Int32) (x : Int32) (d : Nat) : Nat → Int32
  | 0 => 0
  | i + 1 => jrem (horn c x d i * x + c (d - 1 - i)) 1019
def pieceM (S : MS) (p h : Int32) : Int32 := horn (curveA S p) (h + 1) (needN S p) (needN S p)
abbrev isAmong (S : MS) (p h : Int32) : Prop := isParting S p ∧ isHolder S h ∧ ((S.2.1 37) p.toNatClampNeg >>> (h &&& 31)) &&& 1 = 1
def fitU (c : Nat → Int32) (x : Int32) : Nat → Int32
  | 0 => 1
  | j + 1 => jrem (fitU c x j * pwr (four (c j)) 2039 (pwr x 1019 j).toNatClampNeg) 2039
def m_wrap (S : MS) (a b : Int32) : MS × Int32 := if (mN S 29) = 40 ∨ ¬ isKey S a ∨ ¬ isKey S b ∨ a = b then ((sI S 0 0), -1) else (sI (sE (sE (sE (sE (sI S 0 0) 32 (mN S 29) a) 33 (mN S 29) b) 34 (mN S 29) (S.1 1)) 35 (mN S 29) 9999) 29 (nI ((mN S 29) + 1)), nI (mN S 29))
def m_cut (S : MS) (w : Int32) : MS × Bool := if ¬ isIn w 0 (nI (mN S 29) - 1) ∨ ¬ (S.2.1 35) w.toNatClampNeg = 9999 then ((sI S 0 0), false) else (sE (sI S 0 0) 35 w.toNatClampNeg (S.1 1), true)
def fillS (S : MS) (p : Nat) (y : Int64) : Nat → MS
  | 0 => S
  | i + 1 => sE (fillS S p y i) 41 (12 * nI p + nI (i + 1)).toNatClampNeg (drawn (lcgN y (i + 1)) 1019)
theorem fillS_1 (S : MS) (p : Nat) (y : Int64) (i : Nat) : (fillS S p y i).1 = S.1 := by
  induction i with
  | zero => rfl
  | succ i ih => exact ih
def parted0 (S : MS) (k s r : Int32) : MS := sE (sE (sE (sE (sE (sE S 36 (mN S 30) k) 37 (mN S 30) s) 38 (mN S 30) r) 39 (mN S 30) (S.1 1)) 40 (mN S 30) 9999) 41 (12 * nI (mN S 30)).toNatClampNeg (jrem ((S.2.1 22) k.toNatClampNeg) 1019)
def partedS (S : MS) (k s : Int32) (dd : Nat) (y : Int64) : MS := sI (fillS (parted0 S k s (nI dd)) (mN S 30) y (dd - 1)) 30 (nI ((mN S 30) + 1))
def m_part (S : MS) (k s r : Int32) (y : Int64) : MS × Int32 := if (mN S 30) < 40 ∧ isKey S k ∧ areHolders S s 1 ∧ isIn r 1 (bitc s) then (partedS (sI S 0 0) k s r.toNatClampNeg y, nI (mN S 30)) else ((sI S 0 0), -1)
def m_again (S : MS) (p : Int32) (y : Int64) : MS × Int32 := if (mN S 30) = 40 ∨ ¬ isParting S p ∨ ¬ (S.2.1 40) p.toNatClampNeg = 9999 then ((sI S 0 0), -1) else (partedS (sE (sI S 0 0) 40 p.toNatClampNeg (S.1 1)) ((S.2.1 36) p.toNatClampNeg) ((S.2.1 37) p.toNatClampNeg) (needN S p) y, nI (mN S 30))
def m_piece (S : MS) (p h : Int32) : Int32 := if isAmong S p h then pieceM S p h else -1
def m_checks (S : MS) (p j : Int32) : Int32 := if isParting S p ∧ isIn j 0 (nI (needN S p) - 1) then four ((S.2.1 41) (12 * p + j).toNatClampNeg) else -1
def m_fits (S : MS) (p h v : Int32) : Int32 := if ¬ isAmong S p h ∨ ¬ isIn v 0 1018 then -1 else p2i (four v = fitU (curveA S p) (h + 1) (needN S p))
def layB (A : Nat → Nat → Int32) (h : Int32) : Nat → Bool
  | 0 => false
  | k + 1 => layB A h k || decide (A 42 k = h)
def m_lay (S : MS) (h v : Int32) : MS × Int32 := if ¬ isHolder S h ∨ ¬ isIn v 0 1018 ∨ layB S.2.1 h (mN S 31) = true then ((sI S 0 0), -1) else (sI (sE (sE (sI S 0 0) 42 (mN S 31) h) 43 (mN S 31) v) 31 (nI ((mN S 31) + 1)), nI ((mN S 31) + 1))
def joinS (A : Nat → Nat → Int32) : Nat → Int32
  | 0 => 0
  | k + 1 => joinS A k ||| ((1 : Int32) <<< (A 42 k &&& 31))
def joinU (A : Nat → Nat → Int32) (set : Int32) : Nat → Int32
  | 0 => 0
  | k + 1 => jrem (joinU A set k + A 43 k * weight (A 42 k) set) 1019
def m_join (S : MS) : MS × Int32 := if (mN S 31) = 0 then ((sI S 0 0), -1) else (sI (sI S 0 0) 31 0, joinU S.2.1 (joinS S.2.1 (mN S 31)) (mN S 31))
theorem shl_h {H : Nat} (hH : H ≤ 12) : (1 : Int32) <<< (nI H &&& 31) = nI (2 ^ H) := by
  have hall : ∀ H, H < 13 → (1 : Int32) <<< (nI H &&& 31) = nI (2 ^ H) := by decide +kernel
  exact hall H (by omega)
theorem areHolders.nat {S : MS} (hS : MOK S) {s : Int32} (h : areHolders S s 1) : ∃ j, 1 ≤ j ∧ j < 2 ^ (mN S 12) ∧ s = nI j := by
  obtain ⟨h1, h2⟩ := h
  have h0 : ¬ s < 0 := fun q => h1 (Int32.lt_trans q (by decide))
  obtain ⟨j, hj, e⟩ := nI_of h0
  have b12 := hS.c12.2
  have hp : (2 : Nat) ^ (mN S 12) ≤ 2 ^ 12 := Nat.pow_le_pow_right (by decide) b12
  rw [hS.c12.1, shl_h b12, e] at h2
  rw [e] at h1
  refine ⟨j, ?_, (nI_ltI hj (by omega)).mp h2, e⟩
  rcases Nat.eq_zero_or_pos j with q | q
  · exact absurd (by rw [q]; decide) h1
  · exact q
theorem bitc_le0 : ∀ a, a < 64 → ∀ b, b < 64 → bitc (nI (64 * a + b)) ≤ 12 ∧ 0 ≤ bitc (nI (64 * a + b)) := by decide +kernel
theorem bitc_le (j : Nat) (h : j < 4096) : bitc (nI j) ≤ 12 ∧ 0 ≤ bitc (nI j) := by
  have := bitc_le0 (j / 64) (by omega) (j % 64) (by omega)
  rwa [show 64 * (j / 64) + j % 64 = j by omega] at this
theorem part_need {S : MS} (hS : MOK S) {s r : Int32} (hs : areHolders S s 1) (h : isIn r 1 (bitc s)) : ∃ dd, 1 ≤ dd ∧ dd ≤ 12 ∧ r = nI dd := by
  obtain ⟨j, h1, h2, rfl⟩ := hs.nat hS
  have b12 := hS.c12.2
  have hp : (2 : Nat) ^ (mN S 12) ≤ 2 ^ 12 := Nat.pow_le_pow_right (by decide) b12
  have hb := (bitc_le j (by omega)).1
  obtain ⟨h3, h4⟩ := h
  have h0 : ¬ r < 0 := fun q => h3 (Int32.lt_trans q (by decide))
  obtain ⟨dd, hd, e⟩ := nI_of h0
  subst e
  refine ⟨dd, ?_, ?_, rfl⟩
  · rcases Nat.eq_zero_or_pos dd with q | q
    · exact absurd (by rw [q]; decide) h3
    · exact q
  · have := Int32.le_trans (Int32.not_lt.mp h4) hb
    exact (nI_leI (b := 12) hd (by decide)).mp this
theorem isIn_nat {w : Int32} {N M : Nat} (hN : N ≤ M) (hM : M < 2 ^ 30) (h : isIn w 0 (nI N - 1)) : ∃ j, j < N ∧ w = nI j := by
  obtain ⟨j, hj, e⟩ := nI_of h.1
  subst e
  refine ⟨j, ?_, rfl⟩
  rcases Nat.eq_zero_or_pos N with q | q
  · exact absurd (show nI N - 1 < nI j by rw [q]; exact Int32.lt_of_lt_of_le (show nI 0 - 1 < nI 0 from by decide) (nI_le (Nat.zero_le j) hj)) h.2
  · rw [show N = (N - 1) + 1 by omega, nI_pred] at h
    have := Nat.not_lt.mp fun z => h.2 ((nI_ltI (a := N - 1) (b := j) (by omega) hj).mpr z)
    omega
theorem isIn_in {w : Int32} {N M : Nat} (hN : N ≤ M) (hM : M < 2 ^ 30) (h : isIn w 0 (nI N - 1)) : vp_in w M := by
  obtain ⟨j, hj, rfl⟩ := isIn_nat hN hM h
  exact vp_in_nI (by omega) (by omega)
/-- pigeons -/
theorem pigeon : ∀ (m n : Nat) (f : Nat → Nat), (∀ i, i < n → f i < m) → (∀ i j, i < n → j < n → f i = f j → i = j) → n ≤ m
  | 0, n, f, h, _ => by
    rcases Nat.eq_zero_or_pos n with q | q
    · omega
    · exact absurd (h 0 q) (by omega)
  | m + 1, 0, f, _, _ => Nat.zero_le _
  | m + 1, n + 1, f, h, hi => by
    have key := pigeon m n (fun i => if f i = m then f n else f i) (fun i hi2 => by
      have h1 := h i (by omega)
      have h2 := h n (by omega)
      by_cases q : f i = m
      · simp only [q, if_true]
        have : f n ≠ m := fun z => by have := hi i n (by omega) (by omega) (q.trans z.symm); omega
        omega
      · simp only [q, if_false]
        omega) (fun i j h1 h2 e => by
      by_cases q : f i = m <;> by_cases r : f j = m
      · exact hi i j (by omega) (by omega) (q.trans r.symm)
      · simp only [q, r, if_true, if_false] at e
        have := hi n j (by omega) (by omega) e
        omega
      · simp only [q, r, if_true, if_false] at e
        have := hi i n (by omega) (by omega) e
        omega
      · simp only [q, r, if_false] at e
        exact hi i j (by omega) (by omega) e)
    omega
theorem layB_mono {A : Nat → Nat → Int32} {h : Int32} {i n : Nat} (hb : layB A h i = true) (hi : i ≤ n) : layB A h n = true := by
  induction n with
  | zero => rw [show i = 0 by omega] at hb; exact hb
  | succ n ih =>
    rcases Nat.lt_or_ge i (n + 1) with q | q
    · simp [layB, ih (by omega)]
    · rw [← show i = n + 1 by omega]; exact hb
theorem layB_no {A : Nat → Nat → Int32} {h : Int32} {n : Nat} (hb : layB A h n = false) : ∀ i, i < n → ¬ A 42 i = h := by
  intro i hi q
  have := layB_mono (A := A) (h := h) (i := i + 1) (by simp [layB, q]) hi
  rw [hb] at this
  cases this
theorem lay_room {S : MS} (hS : MOK S) {h : Int32} (hb : layB S.2.1 h (mN S 31) = false) (hh : isHolder S h) : (mN S 31) < 12 := by
  obtain ⟨q, hq, rfl⟩ := rng_nat hS.c12.1 (by have := hS.c12.2; omega) hh
  have h12 := hS.c12.2
  obtain ⟨b1, b2⟩ := hS.bench
  have hno := layB_no hb
  have := pigeon 12 ((mN S 31) + 1) (fun i => if i = (mN S 31) then q else ((S.2.1 42) i).toNatClampNeg) (fun i hi => by
    by_cases z : i = (mN S 31)
    · simp only [z, if_true]; omega
    · simp only [z, if_false]
      obtain ⟨r, hr, e⟩ := b1 i (by omega)
      rw [e, nI_clamp (by omega)]
      exact hr) (fun i j hi hj e => by
    by_cases z : i = (mN S 31) <;> by_cases w : j = (mN S 31)
    · omega
    · simp only [z, w, if_true, if_false] at e
      obtain ⟨r, hr, e2⟩ := b1 j (by omega)
      rw [e2, nI_clamp (by omega)] at e
      exact absurd (by rw [e2, e]) (hno j (by omega))
    · simp only [z, w, if_true, if_false] at e
      obtain ⟨r, hr, e2⟩ := b1 i (by omega)
      rw [e2, nI_clamp (by omega)] at e
      exact absurd (by rw [e2, e]) (hno i (by omega))
    · simp only [z, w, if_false] at e
      obtain ⟨r, hr, e2⟩ := b1 i (by omega)
      obtain ⟨r', hr', e3⟩ := b1 j (by omega)
      rw [e2, e3, nI_clamp (by omega), nI_clamp (by omega)] at e
      exact b2 i j (by omega) (by omega) (by rw [e2, e3, e]))
  omega
def m_left (S : MS) (p s : Int32) : Int32 := if isParting S p ∧ areHolders S s 1 then imax 0 ((S.2.1 38) p.toNatClampNeg - bitc (s &&& (S.2.1 37) p.toNatClampNeg)) else -1

set_option maxHeartbeats 4000000 in
set_option maxRecDepth 100000 in
theorem c_X3_next (l : Launch) (D : gD) (B : Nat × Nat) (h : gHp) (n : Nat) (y : Int64)  : Con l yX3_next (ws_ yX3_next cX3_next 2 (some .long)) ({ frames := 0, cells := 0, slots := 0, locals := 0 }) D B [.long y] h n (gdt (some (.long (lcg y))) h n) 0 0 := by
  refine Con.begin [some (.long y), none] rfl rfl (Nat.le_of_ble_eq_true rfl) rfl rfl (fun X C R => ?_)
  refine g_lload_n C (pc := 0) dX3_next_0 rfl ?_
  refine g_ldc2_w C (pc := 1) dX3_next_1 q1550 ?_
  refine g_lmul C (pc := 4) dX3_next_4 ?_
  refine g_ldc2_w C (pc := 5) dX3_next_5 q1551 ?_
  refine g_ladd C (pc := 8) dX3_next_8 ?_
  exact g_lretD C R dX3_next_9 (Nat.le_refl _) (Nat.le_refl _) (rfl) rfl rfl
theorem ds_X3_next : yX3_next.cls ≠ "java/lang/invoke/MethodHandle" ∧ yX3_next.cls ≠ "java/lang/invoke/VarHandle" ∧ (parseMethodDescriptor yX3_next.desc).map (fun d => d.parameters.length) = some 1 := by decide +kernel
set_option maxHeartbeats 4000000 in
set_option maxRecDepth 100000 in
theorem c_X3_drawn (l : Launch) (D : gD) (B : Nat × Nat) (h : gHp) (n : Nat) (y : Int64) (b : Int32) (hb : ¬ b.toInt64 = 0) : Con l yX3_drawn (ws_ yX3_drawn cX3_drawn 3 (some .int)) ({ frames := 0, cells := 0, slots := 0, locals := 0 }) D B [.long y, .int b] h n (gdt (some (.int (drawn y b))) h n) 0 0 := by
  refine Con.begin [some (.long y), none, some (.int b)] rfl rfl (Nat.le_of_ble_eq_true rfl) rfl rfl (fun X C R => ?_)
  refine g_lload_n C (pc := 0) dX3_drawn_0 rfl ?_
  refine g_bipush C (pc := 1) (v := 33) dX3_drawn_1 (by decide) ?_
  refine g_lushr C (pc := 3) (v := jlushr y 33) dX3_drawn_3 rfl ?_
  refine g_iload_n C (pc := 4) dX3_drawn_4 rfl ?_
  refine g_i2l C (pc := 5) (v := b.toInt64) dX3_drawn_5 rfl ?_
  refine g_lrem C (pc := 6) dX3_drawn_6 hb ?_
  refine g_l2i C (pc := 7) (v := (jlrem (jlushr y 33) b.toInt64).toInt32) dX3_drawn_7 rfl ?_
  exact g_iretD C R dX3_drawn_8 (Nat.le_refl _) (Nat.le_refl _) (rfl) rfl rfl
theorem ds_X3_drawn : yX3_drawn.cls ≠ "java/lang/invoke/MethodHandle" ∧ yX3_drawn.cls ≠ "java/lang/invoke/VarHandle" ∧ (parseMethodDescriptor yX3_drawn.desc).map (fun d => d.parameters.length) = some 2 := by decide +kernel
set_option maxHeartbeats 4000000 in
set_option maxRecDepth 100000 in
theorem c_X3_inverse (l : Launch) (D : gD) (B : Nat × Nat) (h : gHp) (n : Nat) (v : Int32)  : Con l yX3_inverse (ws_ yX3_inverse cX3_inverse 1 (some .int)) ({ frames := 1, cells := 0, slots := 0, locals := 24 }) D B [.int v] h n (gdt (some (.int (inv v))) h n) 0 0 := by
  refine Con.begin [some (.int v)] rfl rfl (Nat.le_of_ble_eq_true rfl) rfl rfl (fun X C R => ?_)
  refine g_iload_n C (pc := 0) dX3_inverse_0 rfl ?_
  refine g_sipush C (pc := 1) (v := 1017) dX3_inverse_1 (by decide) ?_
  refine g_sipush C (pc := 4) (v := 1019) dX3_inverse_4 (by decide) ?_
  refine g_callSD C (pc := 7) [.int v, .int 1017, .int 1019] [] dX3_inverse_7 (c_X3_power l D B h n v 1017 1019 (by decide)) (lw_S q1503 q1504 q87 q1505) ds_X3_power ⟨rfl, rfl⟩ ⟨Nat.le_of_ble_eq_true rfl, Nat.le_of_ble_eq_true rfl⟩ rfl rfl ⟨Nat.le_of_ble_eq_true rfl, Nat.le_of_ble_eq_true rfl⟩ (Nat.le_of_ble_eq_true rfl) rfl ?_
  exact g_iretD C R dX3_inverse_10 (Nat.le_refl _) (Nat.le_refl _) (rfl) rfl rfl
theorem ds_X3_inverse : yX3_inverse.cls ≠ "java/lang/invoke/MethodHandle" ∧ yX3_inverse.cls ≠ "java/lang/invoke/VarHandle" ∧ (parseMethodDescriptor yX3_inverse.desc).map (fun d => d.parameters.length) = some 1 := by decide +kernel
set_option maxHeartbeats 4000000 in
set_option maxRecDepth 100000 in
theorem c_X3_wrap (l : Launch) (D : gD) (B : Nat × Nat) (K : KS) (S : MS) (h : gHp) (n : Nat) (a : Int32) (b : Int32) (hS : MOK S) : Con l yX3_wrap (ws_ yX3_wrap cX3_wrap 3 (some .int)) ({ frames := 1, cells := 0, slots := 0, locals := 21 }) D B [.ref 20, .int a, .int b] (wd K S h) n (gdt (some (.int ((m_wrap S a b).2))) (wd K ((m_wrap S a b).1) h) n) 0 0 := by
  have b12 := hS.c12.2
  have b13 := hS.c13.2
  have b14 := hS.c14.2
  have b16 := hS.c16.2
  have b29 := hS.c29.2
  have b30 := hS.c30.2
  have b31 := hS.c31.2
  have b48 := hS.c48.2
  have b49 := hS.c49.2
  have b50 := hS.c50.2
  have b51 := hS.c51.2
  have b77 := hS.c77.2
  have b78 := hS.c78.2
  have b79 := hS.c79.2
  have b82 := hS.c82.2
  refine Con.begin [some (.ref 20), some (.int a), some (.int b)] rfl rfl (Nat.le_of_ble_eq_true rfl) rfl rfl (fun X C R => ?_)
  refine g_aload_n C (pc := 0) dX3_wrap_0 rfl rfl ?_
  refine g_iconst C (pc := 1) (v := 0) dX3_wrap_1 (by decide) ?_
  refine m_puti C 0 (pc := 2) dX3_wrap_2 rfl q1193 rfl rfl rfl ?_
  refine g_aload_n C (pc := 5) dX3_wrap_5 rfl rfl ?_
  refine m_geti C 29 (pc := 6) (v := nI (mN S 29)) dX3_wrap_6 rfl q1222 rfl hS.c29.1 ?_
  refine g_bipush C (pc := 9) (v := 40) dX3_wrap_9 (by decide) ?_
  refine g_icmp_eq C (pc := 11) (tgt := 35) dX3_wrap_11 (by decide) (fun c_11 => ?_) (fun c_11 => ?_)
  · skip
    have c_11 : (mN S 29) = 40 := (nI_eq (a := (mN S 29)) (b := 40) (by omega) (by omega)).mp c_11
    refine g_iconst C (pc := 35) (v := (-1)) dX3_wrap_35 (by decide) ?_
    exact g_iretD C R dX3_wrap_36 (Nat.le_refl _) (Nat.le_refl _) (by unfold m_wrap; first | (rw [if_pos (by  grind)] <;> first | rfl | (simp [mN_sI_ne, sI_2, p2i, b2i, *]; done) | grind) | (rw [if_neg (by  grind)] <;> first | rfl | (simp [mN_sI_ne, sI_2, p2i, b2i, *]; done) | grind)) (congrArg (fun z => wd K z h) (by unfold m_wrap; first | (rw [if_pos (by  grind)] <;> first | rfl | (simp [mN_sI_ne, sI_2, p2i, b2i, *]; done) | grind) | (rw [if_neg (by  grind)] <;> first | rfl | (simp [mN_sI_ne, sI_2, p2i, b2i, *]; done) | grind))) rfl
  · skip
    have c_11 : ¬ (mN S 29) = 40 := fun q => c_11 ((nI_eq (a := (mN S 29)) (b := 40) (by omega) (by omega)).mpr q)
    refine g_aload_n C (pc := 14) dX3_wrap_14 rfl rfl ?_
    refine g_iload_n C (pc := 15) dX3_wrap_15 rfl ?_
    refine g_callVD C (pc := 16) [.int a] [] dX3_wrap_16 (c_X3_isKey l D B K (sI S 0 0) h n a ) (lw_V q1492 q1494 qs38 q87 q1495) (wd_20 _ _ _) rfl rfl ds_X3_isKey ⟨rfl, rfl⟩ ⟨Nat.le_of_ble_eq_true rfl, Nat.le_of_ble_eq_true rfl⟩ rfl rfl ⟨Nat.le_of_ble_eq_true rfl, Nat.le_of_ble_eq_true rfl⟩ (Nat.le_of_ble_eq_true rfl) rfl ?_
    refine g_if_eq C (pc := 19) (tgt := 35) dX3_wrap_19 (by decide) (fun c_19 => ?_) (fun c_19 => ?_)
    · skip
      have c_19 : ¬ (isKey S a) := p2i_0.mp c_19
      refine g_iconst C (pc := 35) (v := (-1)) dX3_wrap_35 (by decide) ?_
      exact g_iretD C R dX3_wrap_36 (Nat.le_refl _) (Nat.le_refl _) (by unfold m_wrap; first | (rw [if_pos (by  grind)] <;> first | rfl | (simp [mN_sI_ne, sI_2, p2i, b2i, *]; done) | grind) | (rw [if_neg (by  grind)] <;> first | rfl | (simp [mN_sI_ne, sI_2, p2i, b2i, *]; done) | grind)) (congrArg (fun z => wd K z h) (by unfold m_wrap; first | (rw [if_pos (by  grind)] <;> first | rfl | (simp [mN_sI_ne, sI_2, p2i, b2i, *]; done) | grind) | (rw [if_neg (by  grind)] <;> first | rfl | (simp [mN_sI_ne, sI_2, p2i, b2i, *]; done) | grind))) rfl
    · skip
      have c_19 : (isKey S a) := p2i_n0.mp c_19
      refine g_aload_n C (pc := 22) dX3_wrap_22 rfl rfl ?_
      refine g_iload_n C (pc := 23) dX3_wrap_23 rfl ?_
      refine g_callVD C (pc := 24) [.int b] [] dX3_wrap_24 (c_X3_isKey l D B K (sI S 0 0) h n b ) (lw_V q1492 q1494 qs38 q87 q1495) (wd_20 _ _ _) rfl rfl ds_X3_isKey ⟨rfl, rfl⟩ ⟨Nat.le_of_ble_eq_true rfl, Nat.le_of_ble_eq_true rfl⟩ rfl rfl ⟨Nat.le_of_ble_eq_true rfl, Nat.le_of_ble_eq_true rfl⟩ (Nat.le_of_ble_eq_true rfl) rfl ?_
      refine g_if_eq C (pc := 27) (tgt := 35) dX3_wrap_27 (by decide) (fun c_27 => ?_) (fun c_27 => ?_)
      · skip
        have c_27 : ¬ (isKey S b) := p2i_0.mp c_27
        refine g_iconst C (pc := 35) (v := (-1)) dX3_wrap_35 (by decide) ?_
        exact g_iretD C R dX3_wrap_36 (Nat.le_refl _) (Nat.le_refl _) (by unfold m_wrap; first | (rw [if_pos (by  grind)] <;> first | rfl | (simp [mN_sI_ne, sI_2, p2i, b2i, *]; done) | grind) | (rw [if_neg (by  grind)] <;> first | rfl | (simp [mN_sI_ne, sI_2, p2i, b2i, *]; done) | grind)) (congrArg (fun z => wd K z h) (by unfold m_wrap; first | (rw [if_pos (by  grind)] <;> first | rfl | (simp [mN_sI_ne, sI_2, p2i, b2i, *]; done) | grind) | (rw [if_neg (by  grind)] <;> first | rfl | (simp [mN_sI_ne, sI_2, p2i, b2i, *]; done) | grind))) rfl
      · skip
        have c_27 : (isKey S b) := p2i_n0.mp c_27
        refine g_iload_n C (pc := 30) dX3_wrap_30 rfl ?_
        refine g_iload_n C (pc := 31) dX3_wrap_31 rfl ?_
        refine g_icmp_ne C (pc := 32) (tgt := 37) dX3_wrap_32 (by decide) (fun c_32 => ?_) (fun c_32 => ?_)
        · skip
          have c_32 : ¬ ((a) : Int32) = b := c_32
          refine g_aload_n C (pc := 37) dX3_wrap_37 rfl rfl ?_
          refine m_geta C 17 32 (pc := 38) dX3_wrap_38 (by decide) (fun _ => rfl) q1210 rfl ?_
          refine g_aload_n C (pc := 41) dX3_wrap_41 rfl rfl ?_
          refine m_geti C 29 (pc := 42) (v := nI (mN S 29)) dX3_wrap_42 rfl q1222 rfl hS.c29.1 ?_
          refine g_iload_n C (pc := 45) dX3_wrap_45 rfl ?_
          refine m_iast C (pc := 46) (j := (mN S 29)) dX3_wrap_46 (by decide) rfl (vp_in_nI (by omega) (by decide)) (nI_clamp (by omega)) ?_
          refine g_aload_n C (pc := 47) dX3_wrap_47 rfl rfl ?_
          refine m_geta C 18 33 (pc := 48) dX3_wrap_48 (by decide) (fun _ => rfl) q1211 rfl ?_
          refine g_aload_n C (pc := 51) dX3_wrap_51 rfl rfl ?_
          refine m_geti C 29 (pc := 52) (v := nI (mN S 29)) dX3_wrap_52 rfl q1222 rfl hS.c29.1 ?_
          refine g_iload_n C (pc := 55) dX3_wrap_55 rfl ?_
          refine m_iast C (pc := 56) (j := (mN S 29)) dX3_wrap_56 (by decide) rfl (vp_in_nI (by omega) (by decide)) (nI_clamp (by omega)) ?_
          refine g_aload_n C (pc := 57) dX3_wrap_57 rfl rfl ?_
          refine m_geta C 19 34 (pc := 58) dX3_wrap_58 (by decide) (fun _ => rfl) q1212 rfl ?_
          refine g_aload_n C (pc := 61) dX3_wrap_61 rfl rfl ?_
          refine m_geti C 29 (pc := 62) (v := nI (mN S 29)) dX3_wrap_62 rfl q1222 rfl hS.c29.1 ?_
          refine g_aload_n C (pc := 65) dX3_wrap_65 rfl rfl ?_
          refine m_geti C 1 (pc := 66) (v := S.1 1) dX3_wrap_66 rfl q1194 rfl rfl ?_
          refine m_iast C (pc := 69) (j := (mN S 29)) dX3_wrap_69 (by decide) rfl (vp_in_nI (by omega) (by decide)) (nI_clamp (by omega)) ?_
          refine g_aload_n C (pc := 70) dX3_wrap_70 rfl rfl ?_
          refine m_geta C 20 35 (pc := 71) dX3_wrap_71 (by decide) (fun _ => rfl) q1213 rfl ?_
          refine g_aload_n C (pc := 74) dX3_wrap_74 rfl rfl ?_
          refine m_geti C 29 (pc := 75) (v := nI (mN S 29)) dX3_wrap_75 rfl q1222 rfl hS.c29.1 ?_
          refine g_sipush C (pc := 78) (v := 9999) dX3_wrap_78 (by decide) ?_
          refine m_iast C (pc := 81) (j := (mN S 29)) dX3_wrap_81 (by decide) rfl (vp_in_nI (by omega) (by decide)) (nI_clamp (by omega)) ?_
          refine g_aload_n C (pc := 82) dX3_wrap_82 rfl rfl ?_
          refine g_dup C (pc := 83) dX3_wrap_83 rfl ?_
          refine m_geti C 29 (pc := 84) (v := nI (mN S 29)) dX3_wrap_84 rfl q1222 rfl hS.c29.1 ?_
          refine g_iconst C (pc := 87) (v := 1) dX3_wrap_87 (by decide) ?_
          refine g_iadd C (pc := 88) dX3_wrap_88 ?_
          refine G.topc (nI_1 _) ?_
          refine m_puti C 29 (pc := 89) dX3_wrap_89 rfl q1222 rfl rfl rfl ?_
          refine g_aload_n C (pc := 92) dX3_wrap_92 rfl rfl ?_
          refine m_geti C 29 (pc := 93) (v := nI ((mN S 29) + 1)) dX3_wrap_93 rfl q1222 rfl rfl ?_
          refine g_iconst C (pc := 96) (v := 1) dX3_wrap_96 (by decide) ?_
          refine g_isub C (pc := 97) dX3_wrap_97 ?_
          refine G.topc (nI_pred _) ?_
          exact g_iretD C R dX3_wrap_98 (Nat.le_refl _) (Nat.le_refl _) (by unfold m_wrap; first | (rw [if_pos (by  grind)] <;> first | rfl | (simp [mN_sI_ne, sI_2, p2i, b2i, *]; done) | grind) | (rw [if_neg (by  grind)] <;> first | rfl | (simp [mN_sI_ne, sI_2, p2i, b2i, *]; done) | grind)) (congrArg (fun z => wd K z h) (by unfold m_wrap; first | (rw [if_pos (by  grind)] <;> first | rfl | (simp [mN_sI_ne, sI_2, p2i, b2i, *]; done) | grind) | (rw [if_neg (by  grind)] <;> first | rfl | (simp [mN_sI_ne, sI_2, p2i, b2i, *]; done) | grind))) rfl
        · skip
          have c_32 : ((a) : Int32) = b := c_32
          refine g_iconst C (pc := 35) (v := (-1)) dX3_wrap_35 (by decide) ?_
          exact g_iretD C R dX3_wrap_36 (Nat.le_refl _) (Nat.le_refl _) (by unfold m_wrap; first | (rw [if_pos (by  grind)] <;> first | rfl | (simp [mN_sI_ne, sI_2, p2i, b2i, *]; done) | grind) | (rw [if_neg (by  grind)] <;> first | rfl | (simp [mN_sI_ne, sI_2, p2i, b2i, *]; done) | grind)) (congrArg (fun z => wd K z h) (by unfold m_wrap; first | (rw [if_pos (by  grind)] <;> first | rfl | (simp [mN_sI_ne, sI_2, p2i, b2i, *]; done) | grind) | (rw [if_neg (by  grind)] <;> first | rfl | (simp [mN_sI_ne, sI_2, p2i, b2i, *]; done) | grind))) rfl
theorem ds_X3_wrap : yX3_wrap.cls ≠ "java/lang/invoke/MethodHandle" ∧ yX3_wrap.cls ≠ "java/lang/invoke/VarHandle" ∧ (parseMethodDescriptor yX3_wrap.desc).map (fun d => d.parameters.length) = some 2 := by decide +kernel
set_option maxHeartbeats 4000000 in
set_option maxRecDepth 100000 in
theorem c_X3_cut (l : Launch) (D : gD) (B : Nat × Nat) (K : KS) (S : MS) (h : gHp) (n : Nat) (w : Int32) (hS : MOK S) : Con l yX3_cut (ws_ yX3_cut cX3_cut 2 (some .boolean)) ({ frames := 1, cells := 0, slots := 0, locals := 22 }) D B [.ref 20, .int w] (wd K S h) n (gdt (some (.int (b2i (m_cut S w).2))) (wd K ((m_cut S w).1) h) n) 0 0 := by
  have b12 := hS.c12.2
  have b13 := hS.c13.2
  have b14 := hS.c14.2
  have b16 := hS.c16.2
  have b29 := hS.c29.2
  have b30 := hS.c30.2
  have b31 := hS.c31.2
  have b48 := hS.c48.2
  have b49 := hS.c49.2
  have b50 := hS.c50.2
  have b51 := hS.c51.2
  have b77 := hS.c77.2
  have b78 := hS.c78.2
  have b79 := hS.c79.2
  have b82 := hS.c82.2
  refine Con.begin [some (.ref 20), some (.int w)] rfl rfl (Nat.le_of_ble_eq_true rfl) rfl rfl (fun X C R => ?_)
  refine g_aload_n C (pc := 0) dX3_cut_0 rfl rfl ?_
  refine g_iconst C (pc := 1) (v := 0) dX3_cut_1 (by decide) ?_
  refine m_puti C 0 (pc := 2) dX3_cut_2 rfl q1193 rfl rfl rfl ?_
  refine g_iload_n C (pc := 5) dX3_cut_5 rfl ?_
  refine g_iconst C (pc := 6) (v := 0) dX3_cut_6 (by decide) ?_
  refine g_aload_n C (pc := 7) dX3_cut_7 rfl rfl ?_
  refine m_geti C 29 (pc := 8) (v := nI (mN S 29)) dX3_cut_8 rfl q1222 rfl hS.c29.1 ?_
  refine g_iconst C (pc := 11) (v := 1) dX3_cut_11 (by decide) ?_
  refine g_isub C (pc := 12) dX3_cut_12 ?_
  refine g_callSD C (pc := 13) [.int w, .int 0, .int ((nI (mN S 29)) - 1)] [] dX3_cut_13 (c_X3_isIn l D B (wd K (sI S 0 0) h) n w 0 ((nI (mN S 29)) - 1) ) (lw_S q1458 q1459 q87 q1460) ds_X3_isIn ⟨rfl, rfl⟩ ⟨Nat.le_of_ble_eq_true rfl, Nat.le_of_ble_eq_true rfl⟩ rfl rfl ⟨Nat.le_of_ble_eq_true rfl, Nat.le_of_ble_eq_true rfl⟩ (Nat.le_of_ble_eq_true rfl) rfl ?_
  refine g_if_eq C (pc := 16) (tgt := 31) dX3_cut_16 (by decide) (fun c_16 => ?_) (fun c_16 => ?_)
  · skip
    have c_16 : ¬ (isIn w 0 ((nI (mN S 29)) - 1)) := p2i_0.mp c_16
    refine g_iconst C (pc := 31) (v := 0) dX3_cut_31 (by decide) ?_
    exact g_zretD C (b2i_nb _) R dX3_cut_32 (Nat.le_refl _) (Nat.le_refl _) (by unfold m_cut; first | (rw [if_pos (by  grind)] <;> first | rfl | (simp [mN_sI_ne, sI_2, p2i, b2i, *]; done) | grind) | (rw [if_neg (by  grind)] <;> first | rfl | (simp [mN_sI_ne, sI_2, p2i, b2i, *]; done) | grind)) (congrArg (fun z => wd K z h) (by unfold m_cut; first | (rw [if_pos (by  grind)] <;> first | rfl | (simp [mN_sI_ne, sI_2, p2i, b2i, *]; done) | grind) | (rw [if_neg (by  grind)] <;> first | rfl | (simp [mN_sI_ne, sI_2, p2i, b2i, *]; done) | grind))) rfl
  · skip
    have c_16 : (isIn w 0 ((nI (mN S 29)) - 1)) := p2i_n0.mp c_16
    have hw : vp_in w 40 := isIn_in b29 (by decide) c_16
    refine g_aload_n C (pc := 19) dX3_cut_19 rfl rfl ?_
    refine m_geta C 20 35 (pc := 20) dX3_cut_20 (by decide) (fun _ => rfl) q1213 rfl ?_
    refine g_iload_n C (pc := 23) dX3_cut_23 rfl ?_
    refine m_iald C (pc := 24) (v := (S.2.1 35) ((w).toNatClampNeg)) dX3_cut_24 (by decide) rfl hw rfl ?_
    refine g_sipush C (pc := 25) (v := 9999) dX3_cut_25 (by decide) ?_
    refine g_icmp_eq C (pc := 28) (tgt := 33) dX3_cut_28 (by decide) (fun c_28 => ?_) (fun c_28 => ?_)
    · skip
      have c_28 : (((S.2.1 35) ((w).toNatClampNeg)) : Int32) = 9999 := c_28
      refine g_aload_n C (pc := 33) dX3_cut_33 rfl rfl ?_
      refine m_geta C 20 35 (pc := 34) dX3_cut_34 (by decide) (fun _ => rfl) q1213 rfl ?_
      refine g_iload_n C (pc := 37) dX3_cut_37 rfl ?_
      refine g_aload_n C (pc := 38) dX3_cut_38 rfl rfl ?_
      refine m_geti C 1 (pc := 39) (v := S.1 1) dX3_cut_39 rfl q1194 rfl rfl ?_
      refine m_iast C (pc := 42) (j := (w).toNatClampNeg) dX3_cut_42 (by decide) rfl hw rfl ?_
      refine g_iconst C (pc := 43) (v := 1) dX3_cut_43 (by decide) ?_
      exact g_zretD C (b2i_nb _) R dX3_cut_44 (Nat.le_refl _) (Nat.le_refl _) (by unfold m_cut; first | (rw [if_pos (by  grind)] <;> first | rfl | (simp [mN_sI_ne, sI_2, p2i, b2i, *]; done) | grind) | (rw [if_neg (by  grind)] <;> first | rfl | (simp [mN_sI_ne, sI_2, p2i, b2i, *]; done) | grind)) (congrArg (fun z => wd K z h) (by unfold m_cut; first | (rw [if_pos (by  grind)] <;> first | rfl | (simp [mN_sI_ne, sI_2, p2i, b2i, *]; done) | grind) | (rw [if_neg (by  grind)] <;> first | rfl | (simp [mN_sI_ne, sI_2, p2i, b2i, *]; done) | grind))) rfl
    · skip
      have c_28 : ¬ (((S.2.1 35) ((w).toNatClampNeg)) : Int32) = 9999 := c_28
      refine g_iconst C (pc := 31) (v := 0) dX3_cut_31 (by decide) ?_
      exact g_zretD C (b2i_nb _) R dX3_cut_32 (Nat.le_refl _) (Nat.le_refl _) (by unfold m_cut; first | (rw [if_pos (by  grind)] <;> first | rfl | (simp [mN_sI_ne, sI_2, p2i, b2i, *]; done) | grind) | (rw [if_neg (by  grind)] <;> first | rfl | (simp [mN_sI_ne, sI_2, p2i, b2i, *]; done) | grind)) (congrArg (fun z => wd K z h) (by unfold m_cut; first | (rw [if_pos (by  grind)] <;> first | rfl | (simp [mN_sI_ne, sI_2, p2i, b2i, *]; done) | grind) | (rw [if_neg (by  grind)] <;> first | rfl | (simp [mN_sI_ne, sI_2, p2i, b2i, *]; done) | grind))) rfl
theorem ds_X3_cut : yX3_cut.cls ≠ "java/lang/invoke/MethodHandle" ∧ yX3_cut.cls ≠ "java/lang/invoke/VarHandle" ∧ (parseMethodDescriptor yX3_cut.desc).map (fun d => d.parameters.length) = some 1 := by decide +kernel
set_option maxHeartbeats 4000000 in
set_option maxRecDepth 100000 in
theorem c_X3_weight (l : Launch) (D : gD) (B : Nat × Nat) (h : gHp) (n : Nat) (i : Int32) (s : Int32)  : Con l yX3_weight (ws_ yX3_weight cX3_weight 4 (some .int)) ({ frames := 2, cells := 0, slots := 0, locals := 44 }) D B [.int i, .int s] h n (gdt (some (.int (weight i s))) h n) 0 0 := by
  refine Con.begin [some (.int i), some (.int s), none, none] rfl rfl (Nat.le_of_ble_eq_true rfl) rfl rfl (fun X C R => ?_)
  refine g_iconst C (pc := 0) (v := 1) dX3_weight_0 (by decide) ?_
  refine g_istore_n C (pc := 1) (L' := [some (.int i), some (.int s), some (.int 1), none]) dX3_weight_1 (by decide) rfl rfl ?_
  refine g_iconst C (pc := 2) (v := 0) dX3_weight_2 (by decide) ?_
  refine g_istore_n C (pc := 3) (L' := [some (.int i), some (.int s), some (.int 1), some (.int 0)]) dX3_weight_3 (by decide) rfl rfl ?_
  have loop_4 : ∀ (d4 : Nat) (j : Nat) (x : Int32), (j ≤ 12) → (x = wgt i s j) → 12 - j < d4 → G X D B h n 0 0 [some (.int i), some (.int s), some (.int x), some (.int (nI j))] 4 [] := by
    intro d4
    induction d4 with
    | zero =>
      intro j x hj hx hm4
      exact absurd hm4 (Nat.not_lt_zero _)
    | succ d4 ih4 =>
      intro j x hj hx hm4
      refine g_iload_n C (pc := 4) dX3_weight_4 rfl ?_
      refine g_bipush C (pc := 5) (v := 12) dX3_weight_5 (by decide) ?_
      refine g_icmp_ge C (pc := 7) (tgt := 57) dX3_weight_7 (by decide) (fun c_7 => ?_) (fun c_7 => ?_)
      · skip
        have c_7 : 12 ≤ j := Nat.not_lt.mp fun q => c_7 ((nI_ltI (a := j) (b := 12) (by omega) (by omega)).mpr q)
        have hje : j = 12 := by omega
        subst hje
        refine g_iload_n C (pc := 57) dX3_weight_57 rfl ?_
        exact g_iretD C R dX3_weight_58 (Nat.le_refl _) (Nat.le_refl _) (hx) rfl rfl
      · skip
        have c_7 : j < 12 := (nI_ltI (a := j) (b := 12) (by omega) (by omega)).mp c_7
        refine g_iload_n C (pc := 10) dX3_weight_10 rfl ?_
        refine g_iload_n C (pc := 11) dX3_weight_11 rfl ?_
        refine g_icmp_eq C (pc := 12) (tgt := 51) dX3_weight_12 (by decide) (fun c_12 => ?_) (fun c_12 => ?_)
        · skip
          have c_12 : ((nI j) : Int32) = i := c_12
          refine g_iinc C (pc := 51) (v := nI (j + 1)) (L' := [some (.int i), some (.int s), some (.int x), some (.int (nI (j + 1)))]) dX3_weight_51 rfl (nI_inc _) (by decide) rfl rfl ?_
          refine g_goto C (pc := 54) (tgt := 4) dX3_weight_54 (by decide) ?_
          refine G.mask [true, true, true, true] rfl ?_
          exact ih4 (j + 1) x (by omega) (by simp only [wgt]; first | (rw [if_pos ⟨c_12, c_21⟩, e_x_50, hx]) | (rw [if_neg (by grind)]; exact hx)) (by omega)
        · skip
          have c_12 : ¬ ((nI j) : Int32) = i := c_12
          refine g_iload_n C (pc := 15) dX3_weight_15 rfl ?_
          refine g_iload_n C (pc := 16) dX3_weight_16 rfl ?_
          refine g_ishr C (pc := 17) dX3_weight_17 ?_
          refine g_iconst C (pc := 18) (v := 1) dX3_weight_18 (by decide) ?_
          refine g_iand C (pc := 19) dX3_weight_19 ?_
          refine g_iconst C (pc := 20) (v := 1) dX3_weight_20 (by decide) ?_
          refine g_icmp_ne C (pc := 21) (tgt := 51) dX3_weight_21 (by decide) (fun c_21 => ?_) (fun c_21 => ?_)
          · skip
            have c_21 : ¬ (((s >>> ((nI j) &&& 31)) &&& 1) : Int32) = 1 := c_21
            refine g_iinc C (pc := 51) (v := nI (j + 1)) (L' := [some (.int i), some (.int s), some (.int x), some (.int (nI (j + 1)))]) dX3_weight_51 rfl (nI_inc _) (by decide) rfl rfl ?_
            refine g_goto C (pc := 54) (tgt := 4) dX3_weight_54 (by decide) ?_
            refine G.mask [true, true, true, true] rfl ?_
            exact ih4 (j + 1) x (by omega) (by simp only [wgt]; first | (rw [if_pos ⟨c_12, c_21⟩, e_x_50, hx]) | (rw [if_neg (by grind)]; exact hx)) (by omega)
          · skip
            have c_21 : (((s >>> ((nI j) &&& 31)) &&& 1) : Int32) = 1 := c_21
            refine g_iload_n C (pc := 24) dX3_weight_24 rfl ?_
            refine g_iload_n C (pc := 25) dX3_weight_25 rfl ?_
            refine g_iconst C (pc := 26) (v := 1) dX3_weight_26 (by decide) ?_
            refine g_iadd C (pc := 27) dX3_weight_27 ?_
            refine G.topc (nI_1 _) ?_
            refine g_imul C (pc := 28) dX3_weight_28 ?_
            refine g_sipush C (pc := 29) (v := 1019) dX3_weight_29 (by decide) ?_
            refine g_irem C (pc := 32) dX3_weight_32 (by decide) ?_
            refine g_iload_n C (pc := 33) dX3_weight_33 rfl ?_
            refine g_iload_n C (pc := 34) dX3_weight_34 rfl ?_
            refine g_isub C (pc := 35) dX3_weight_35 ?_
            refine g_sipush C (pc := 36) (v := 1019) dX3_weight_36 (by decide) ?_
            refine g_callSD C (pc := 39) [.int ((nI j) - i), .int 1019] [.int (jrem (x * (nI (j + 1))) 1019)] dX3_weight_39 (c_J2_floorMod l D B h n ((nI j) - i) 1019 (by decide)) (lw_S q1594 q405 q92 q406) ds_J2_floorMod ⟨rfl, rfl⟩ ⟨Nat.le_of_ble_eq_true rfl, Nat.le_of_ble_eq_true rfl⟩ rfl rfl ⟨Nat.le_of_ble_eq_true rfl, Nat.le_of_ble_eq_true rfl⟩ (Nat.le_of_ble_eq_true rfl) rfl ?_
            refine g_callSD C (pc := 42) [.int (fmod ((nI j) - i) 1019)] [.int (jrem (x * (nI (j + 1))) 1019)] dX3_weight_42 (c_X3_inverse l D B h n (fmod ((nI j) - i) 1019) ) (lw_S q1595 q1596 q87 q1597) ds_X3_inverse ⟨rfl, rfl⟩ ⟨Nat.le_of_ble_eq_true rfl, Nat.le_of_ble_eq_true rfl⟩ rfl rfl ⟨Nat.le_of_ble_eq_true rfl, Nat.le_of_ble_eq_true rfl⟩ (Nat.le_of_ble_eq_true rfl) rfl ?_
            refine g_imul C (pc := 45) dX3_weight_45 ?_
            refine g_sipush C (pc := 46) (v := 1019) dX3_weight_46 (by decide) ?_
            refine g_irem C (pc := 49) dX3_weight_49 (by decide) ?_
            refine G.topi (fun x_50 e_x_50 => ?_)
            have e_x_50 : x_50 = jrem ((jrem (x * (nI (j + 1))) 1019) * (inv (fmod ((nI j) - i) 1019))) 1019 := e_x_50
            refine g_istore_n C (pc := 50) (L' := [some (.int i), some (.int s), some (.int x_50), some (.int (nI j))]) dX3_weight_50 (by decide) rfl rfl ?_
            refine g_iinc C (pc := 51) (v := nI (j + 1)) (L' := [some (.int i), some (.int s), some (.int x_50), some (.int (nI (j + 1)))]) dX3_weight_51 rfl (nI_inc _) (by decide) rfl rfl ?_
            refine g_goto C (pc := 54) (tgt := 4) dX3_weight_54 (by decide) ?_
            refine G.mask [true, true, true, true] rfl ?_
            exact ih4 (j + 1) x_50 (by omega) (by simp only [wgt]; first | (rw [if_pos ⟨c_12, c_21⟩, e_x_50, hx]) | (rw [if_neg (by grind)]; exact hx)) (by omega)
  refine G.mask [true, true, true, true] rfl ?_
  exact loop_4 _ 0 1 (Nat.zero_le _) (rfl) (Nat.lt_succ_self _)
theorem ds_X3_weight : yX3_weight.cls ≠ "java/lang/invoke/MethodHandle" ∧ yX3_weight.cls ≠ "java/lang/invoke/VarHandle" ∧ (parseMethodDescriptor yX3_weight.desc).map (fun d => d.parameters.length) = some 2 := by decide +kernel
set_option maxHeartbeats 4000000 in
set_option maxRecDepth 100000 in
theorem c_X3_pieceOf (l : Launch) (D : gD) (B : Nat × Nat) (K : KS) (S : MS) (h : gHp) (n : Nat) (p : Int32) (a : Int32) (hS : MOK S) (hp : isParting S p) : Con l yX3_pieceOf (ws_ yX3_pieceOf cX3_pieceOf 5 (some .int)) ({ frames := 0, cells := 0, slots := 0, locals := 0 }) D B [.ref 20, .int p, .int a] (wd K S h) n (gdt (some (.int (pieceM S p a))) (wd K (S) h) n) 0 0 := by
  have b12 := hS.c12.2
  have b13 := hS.c13.2
  have b14 := hS.c14.2
  have b16 := hS.c16.2
  have b29 := hS.c29.2
  have b30 := hS.c30.2
  have b31 := hS.c31.2
  have b48 := hS.c48.2
  have b49 := hS.c49.2
  have b50 := hS.c50.2
  have b51 := hS.c51.2
  have b77 := hS.c77.2
  have b78 := hS.c78.2
  have b79 := hS.c79.2
  have b82 := hS.c82.2
  obtain ⟨hn1, hn2, hn3, hn4⟩ := need_ok hS hp
  refine Con.begin [some (.ref 20), some (.int p), some (.int a), none, none] rfl rfl (Nat.le_of_ble_eq_true rfl) rfl rfl (fun X C R => ?_)
  refine g_iconst C (pc := 0) (v := 0) dX3_pieceOf_0 (by decide) ?_
  refine g_istore_n C (pc := 1) (L' := [some (.ref 20), some (.int p), some (.int a), some (.int 0), none]) dX3_pieceOf_1 (by decide) rfl rfl ?_
  refine g_aload_n C (pc := 2) dX3_pieceOf_2 rfl rfl ?_
  refine m_geta C 23 38 (pc := 3) dX3_pieceOf_3 (by decide) (fun _ => rfl) q1216 rfl ?_
  refine g_iload_n C (pc := 6) dX3_pieceOf_6 rfl ?_
  refine m_iald C (pc := 7) (v := nI (needN S p)) dX3_pieceOf_7 (by decide) rfl (isParting.inr hS hp) hn1 ?_
  refine g_iconst C (pc := 8) (v := 1) dX3_pieceOf_8 (by decide) ?_
  refine g_isub C (pc := 9) dX3_pieceOf_9 ?_
  refine G.topi (fun x_10 e_x_10 => ?_)
  have e_x_10 : x_10 = (nI (needN S p)) - 1 := e_x_10
  refine g_istore C (pc := 10) (L' := [some (.ref 20), some (.int p), some (.int a), some (.int 0), some (.int x_10)]) dX3_pieceOf_10 (by decide) rfl rfl ?_
  have loop_12 : ∀ (d12 : Nat) (e : Nat) (x : Int32) (z : Int32), (e ≤ needN S p) → (x = horn (curveA S p) (a + 1) (needN S p) (needN S p - e)) → (z = nI e - 1) → e < d12 → G X D B (wd K S h) n 0 0 [some (.ref 20), some (.int p), some (.int a), some (.int x), some (.int z)] 12 [] := by
    intro d12
    induction d12 with
    | zero =>
      intro e x z he hx hz hm12
      exact absurd hm12 (Nat.not_lt_zero _)
    | succ d12 ih12 =>
      intro e x z he hx hz hm12
      refine g_iload C (pc := 12) dX3_pieceOf_12 rfl ?_
      refine g_if_lt C (pc := 14) (tgt := 46) dX3_pieceOf_14 (by decide) (fun c_14 => ?_) (fun c_14 => ?_)
      · skip
        have he0 : e = 0 := by rcases Nat.eq_zero_or_pos e with q | q; exact q; exact absurd c_14 (by rw [hz, show e = (e - 1) + 1 by omega, nI_pred]; exact nI_pos (by omega))
        subst he0
        refine g_iload_n C (pc := 46) dX3_pieceOf_46 rfl ?_
        exact g_iretD C R dX3_pieceOf_47 (Nat.le_refl _) (Nat.le_refl _) (by rw [hx]; unfold pieceM; rw [Nat.sub_zero]) rfl rfl
      · skip
        obtain ⟨e, rfl⟩ : ∃ e2, e = e2 + 1 := ⟨e - 1, by rcases Nat.eq_zero_or_pos e with q | q; exact absurd (by rw [hz, q]; decide) c_14; omega⟩
        rw [nI_pred] at hz
        subst hz
        refine g_iload_n C (pc := 17) dX3_pieceOf_17 rfl ?_
        refine g_iload_n C (pc := 18) dX3_pieceOf_18 rfl ?_
        refine g_iconst C (pc := 19) (v := 1) dX3_pieceOf_19 (by decide) ?_
        refine g_iadd C (pc := 20) dX3_pieceOf_20 ?_
        refine g_imul C (pc := 21) dX3_pieceOf_21 ?_
        refine g_aload_n C (pc := 22) dX3_pieceOf_22 rfl rfl ?_
        refine m_geta C 26 41 (pc := 23) dX3_pieceOf_23 (by decide) (fun _ => rfl) q1219 rfl ?_
        refine g_bipush C (pc := 26) (v := 12) dX3_pieceOf_26 (by decide) ?_
        refine g_iload_n C (pc := 28) dX3_pieceOf_28 rfl ?_
        refine g_imul C (pc := 29) dX3_pieceOf_29 ?_
        refine g_iload C (pc := 30) dX3_pieceOf_30 rfl ?_
        refine g_iadd C (pc := 32) dX3_pieceOf_32 ?_
        refine m_iald C (pc := 33) (v := (S.2.1 41) ((((12 * p) + (nI e))).toNatClampNeg)) dX3_pieceOf_33 (by decide) rfl (curve_in hS hp (by omega)) rfl ?_
        refine g_iadd C (pc := 34) dX3_pieceOf_34 ?_
        refine g_sipush C (pc := 35) (v := 1019) dX3_pieceOf_35 (by decide) ?_
        refine g_irem C (pc := 38) dX3_pieceOf_38 (by decide) ?_
        refine G.topi (fun x_39 e_x_39 => ?_)
        have e_x_39 : x_39 = jrem ((x * (a + 1)) + ((S.2.1 41) ((((12 * p) + (nI e))).toNatClampNeg))) 1019 := e_x_39
        refine g_istore_n C (pc := 39) (L' := [some (.ref 20), some (.int p), some (.int a), some (.int x_39), some (.int (nI e))]) dX3_pieceOf_39 (by decide) rfl rfl ?_
        refine g_iinc C (pc := 40) (v := (nI e) + (-1)) (L' := [some (.ref 20), some (.int p), some (.int a), some (.int x_39), some (.int ((nI e) + (-1)))]) dX3_pieceOf_40 rfl rfl (by decide) rfl rfl ?_
        refine g_goto C (pc := 43) (tgt := 12) dX3_pieceOf_43 (by decide) ?_
        refine G.mask [true, true, true, true, true] rfl ?_
        exact ih12 e x_39 ((nI e) + (-1)) (by omega) (by rw [show needN S p - e = (needN S p - (e + 1)) + 1 by omega]; simp only [horn]; rw [e_x_39, hx, show needN S p - 1 - (needN S p - (e + 1)) = e by omega]; rfl) ((Int32.sub_eq_add_neg _ _).symm) (by omega)
  refine G.mask [true, true, true, true, true] rfl ?_
  exact loop_12 _ (needN S p) 0 x_10 (Nat.le_refl _) (by rw [Nat.sub_self]; rfl) (e_x_10) (Nat.lt_succ_self _)
theorem ds_X3_pieceOf : yX3_pieceOf.cls ≠ "java/lang/invoke/MethodHandle" ∧ yX3_pieceOf.cls ≠ "java/lang/invoke/VarHandle" ∧ (parseMethodDescriptor yX3_pieceOf.desc).map (fun d => d.parameters.length) = some 2 := by decide +kernel
set_option maxHeartbeats 4000000 in
set_option maxRecDepth 100000 in
theorem c_X3_isAmong (l : Launch) (D : gD) (B : Nat × Nat) (K : KS) (S : MS) (h : gHp) (n : Nat) (p : Int32) (a : Int32) (hS : MOK S) : Con l yX3_isAmong (ws_ yX3_isAmong cX3_isAmong 3 (some .boolean)) ({ frames := 1, cells := 0, slots := 0, locals := 21 }) D B [.ref 20, .int p, .int a] (wd K S h) n (gdt (some (.int (p2i (isAmong S p a)))) (wd K (S) h) n) 0 0 := by
  have b12 := hS.c12.2
  have b13 := hS.c13.2
  have b14 := hS.c14.2
  have b16 := hS.c16.2
  have b29 := hS.c29.2
  have b30 := hS.c30.2
  have b31 := hS.c31.2
  have b48 := hS.c48.2
  have b49 := hS.c49.2
  have b50 := hS.c50.2
  have b51 := hS.c51.2
  have b77 := hS.c77.2
  have b78 := hS.c78.2
  have b79 := hS.c79.2
  have b82 := hS.c82.2
  refine Con.begin [some (.ref 20), some (.int p), some (.int a)] rfl rfl (Nat.le_of_ble_eq_true rfl) rfl rfl (fun X C R => ?_)
  refine g_aload_n C (pc := 0) dX3_isAmong_0 rfl rfl ?_
  refine g_iload_n C (pc := 1) dX3_isAmong_1 rfl ?_
  refine g_callVD C (pc := 2) [.int p] [] dX3_isAmong_2 (c_X3_isParting l D B K S h n p ) (lw_V q1559 q1561 qs44 q87 q1562) (wd_20 _ _ _) rfl rfl ds_X3_isParting ⟨rfl, rfl⟩ ⟨Nat.le_of_ble_eq_true rfl, Nat.le_of_ble_eq_true rfl⟩ rfl rfl ⟨Nat.le_of_ble_eq_true rfl, Nat.le_of_ble_eq_true rfl⟩ (Nat.le_of_ble_eq_true rfl) rfl ?_
  refine g_if_eq C (pc := 5) (tgt := 34) dX3_isAmong_5 (by decide) (fun c_5 => ?_) (fun c_5 => ?_)
  · skip
    have c_5 : ¬ (isParting S p) := p2i_0.mp c_5
    refine g_iconst C (pc := 34) (v := 0) dX3_isAmong_34 (by decide) ?_
    exact g_zretD C (p2i_nb _) R dX3_isAmong_35 (Nat.le_refl _) (Nat.le_refl _) ((p2i_f (by grind)).symm) rfl rfl
  · skip
    have c_5 : (isParting S p) := p2i_n0.mp c_5
    refine g_aload_n C (pc := 8) dX3_isAmong_8 rfl rfl ?_
    refine g_iload_n C (pc := 9) dX3_isAmong_9 rfl ?_
    refine g_callVD C (pc := 10) [.int a] [] dX3_isAmong_10 (c_X3_isHolder l D B K S h n a ) (lw_V q1514 q1516 qs40 q87 q1517) (wd_20 _ _ _) rfl rfl ds_X3_isHolder ⟨rfl, rfl⟩ ⟨Nat.le_of_ble_eq_true rfl, Nat.le_of_ble_eq_true rfl⟩ rfl rfl ⟨Nat.le_of_ble_eq_true rfl, Nat.le_of_ble_eq_true rfl⟩ (Nat.le_of_ble_eq_true rfl) rfl ?_
    refine g_if_eq C (pc := 13) (tgt := 34) dX3_isAmong_13 (by decide) (fun c_13 => ?_) (fun c_13 => ?_)
    · skip
      have c_13 : ¬ (isHolder S a) := p2i_0.mp c_13
      refine g_iconst C (pc := 34) (v := 0) dX3_isAmong_34 (by decide) ?_
      exact g_zretD C (p2i_nb _) R dX3_isAmong_35 (Nat.le_refl _) (Nat.le_refl _) ((p2i_f (by grind)).symm) rfl rfl
    · skip
      have c_13 : (isHolder S a) := p2i_n0.mp c_13
      refine g_aload_n C (pc := 16) dX3_isAmong_16 rfl rfl ?_
      refine m_geta C 22 37 (pc := 17) dX3_isAmong_17 (by decide) (fun _ => rfl) q1215 rfl ?_
      refine g_iload_n C (pc := 20) dX3_isAmong_20 rfl ?_
      refine m_iald C (pc := 21) (v := (S.2.1 37) ((p).toNatClampNeg)) dX3_isAmong_21 (by decide) rfl (isParting.inr hS (by assumption)) rfl ?_
      refine g_iload_n C (pc := 22) dX3_isAmong_22 rfl ?_
      refine g_ishr C (pc := 23) dX3_isAmong_23 ?_
      refine g_iconst C (pc := 24) (v := 1) dX3_isAmong_24 (by decide) ?_
      refine g_iand C (pc := 25) dX3_isAmong_25 ?_
      refine g_iconst C (pc := 26) (v := 1) dX3_isAmong_26 (by decide) ?_
      refine g_icmp_ne C (pc := 27) (tgt := 34) dX3_isAmong_27 (by decide) (fun c_27 => ?_) (fun c_27 => ?_)
      · skip
        have c_27 : ¬ (((((S.2.1 37) ((p).toNatClampNeg)) >>> (a &&& 31)) &&& 1) : Int32) = 1 := c_27
        refine g_iconst C (pc := 34) (v := 0) dX3_isAmong_34 (by decide) ?_
        exact g_zretD C (p2i_nb _) R dX3_isAmong_35 (Nat.le_refl _) (Nat.le_refl _) ((p2i_f (by grind)).symm) rfl rfl
      · skip
        have c_27 : (((((S.2.1 37) ((p).toNatClampNeg)) >>> (a &&& 31)) &&& 1) : Int32) = 1 := c_27
        refine g_iconst C (pc := 30) (v := 1) dX3_isAmong_30 (by decide) ?_
        refine g_goto C (pc := 31) (tgt := 35) dX3_isAmong_31 (by decide) ?_
        exact g_zretD C (p2i_nb _) R dX3_isAmong_35 (Nat.le_refl _) (Nat.le_refl _) ((p2i_t (by grind)).symm) rfl rfl
theorem ds_X3_isAmong : yX3_isAmong.cls ≠ "java/lang/invoke/MethodHandle" ∧ yX3_isAmong.cls ≠ "java/lang/invoke/VarHandle" ∧ (parseMethodDescriptor yX3_isAmong.desc).map (fun d => d.parameters.length) = some 2 := by decide +kernel
set_option maxHeartbeats 4000000 in
set_option maxRecDepth 100000 in
theorem c_X3_piece (l : Launch) (D : gD) (B : Nat × Nat) (K : KS) (S : MS) (h : gHp) (n : Nat) (p : Int32) (a : Int32) (hS : MOK S) : Con l yX3_piece (ws_ yX3_piece cX3_piece 3 (some .int)) ({ frames := 2, cells := 0, slots := 0, locals := 43 }) D B [.ref 20, .int p, .int a] (wd K S h) n (gdt (some (.int (m_piece S p a))) (wd K ((sI S 0 0)) h) n) 0 0 := by
  have b12 := hS.c12.2
  have b13 := hS.c13.2
  have b14 := hS.c14.2
  have b16 := hS.c16.2
  have b29 := hS.c29.2
  have b30 := hS.c30.2
  have b31 := hS.c31.2
  have b48 := hS.c48.2
  have b49 := hS.c49.2
  have b50 := hS.c50.2
  have b51 := hS.c51.2
  have b77 := hS.c77.2
  have b78 := hS.c78.2
  have b79 := hS.c79.2
  have b82 := hS.c82.2
  refine Con.begin [some (.ref 20), some (.int p), some (.int a)] rfl rfl (Nat.le_of_ble_eq_true rfl) rfl rfl (fun X C R => ?_)
  refine g_aload_n C (pc := 0) dX3_piece_0 rfl rfl ?_
  refine g_iconst C (pc := 1) (v := 0) dX3_piece_1 (by decide) ?_
  refine m_puti C 0 (pc := 2) dX3_piece_2 rfl q1193 rfl rfl rfl ?_
  refine g_aload_n C (pc := 5) dX3_piece_5 rfl rfl ?_
  refine g_iload_n C (pc := 6) dX3_piece_6 rfl ?_
  refine g_iload_n C (pc := 7) dX3_piece_7 rfl ?_
  refine g_callVD C (pc := 8) [.int p, .int a] [] dX3_piece_8 (c_X3_isAmong l D B K (sI S 0 0) h n p a (hS.setI 0 rfl)) (lw_V q1567 q1569 qs45 q87 q1570) (wd_20 _ _ _) rfl rfl ds_X3_isAmong ⟨rfl, rfl⟩ ⟨Nat.le_of_ble_eq_true rfl, Nat.le_of_ble_eq_true rfl⟩ rfl rfl ⟨Nat.le_of_ble_eq_true rfl, Nat.le_of_ble_eq_true rfl⟩ (Nat.le_of_ble_eq_true rfl) rfl ?_
  refine g_if_eq C (pc := 11) (tgt := 23) dX3_piece_11 (by decide) (fun c_11 => ?_) (fun c_11 => ?_)
  · skip
    have c_11 : ¬ (isAmong S p a) := p2i_0.mp c_11
    refine g_iconst C (pc := 23) (v := (-1)) dX3_piece_23 (by decide) ?_
    exact g_iretD C R dX3_piece_24 (Nat.le_refl _) (Nat.le_refl _) (by unfold m_piece; first | (rw [if_pos (by  grind)] <;> first | rfl | (simp [mN_sI_ne, sI_2, p2i, b2i, *]; done) | grind) | (rw [if_neg (by  grind)] <;> first | rfl | (simp [mN_sI_ne, sI_2, p2i, b2i, *]; done) | grind)) (congrArg (fun z => wd K z h) (rfl)) rfl
  · skip
    have c_11 : (isAmong S p a) := p2i_n0.mp c_11
    refine g_aload_n C (pc := 14) dX3_piece_14 rfl rfl ?_
    refine g_iload_n C (pc := 15) dX3_piece_15 rfl ?_
    refine g_iload_n C (pc := 16) dX3_piece_16 rfl ?_
    refine g_callVD C (pc := 17) [.int p, .int a] [] dX3_piece_17 (c_X3_pieceOf l D B K (sI S 0 0) h n p a (hS.setI 0 rfl) c_11.1) (lw_V q1571 q1573 qs46 q87 q1574) (wd_20 _ _ _) rfl rfl ds_X3_pieceOf ⟨rfl, rfl⟩ ⟨Nat.le_of_ble_eq_true rfl, Nat.le_of_ble_eq_true rfl⟩ rfl rfl ⟨Nat.le_of_ble_eq_true rfl, Nat.le_of_ble_eq_true rfl⟩ (Nat.le_of_ble_eq_true rfl) rfl ?_
    refine g_goto C (pc := 20) (tgt := 24) dX3_piece_20 (by decide) ?_
    exact g_iretD C R dX3_piece_24 (Nat.le_refl _) (Nat.le_refl _) (by unfold m_piece; first | (rw [if_pos (by  grind)] <;> first | rfl | (simp [mN_sI_ne, sI_2, p2i, b2i, *]; done) | grind) | (rw [if_neg (by  grind)] <;> first | rfl | (simp [mN_sI_ne, sI_2, p2i, b2i, *]; done) | grind)) (congrArg (fun z => wd K z h) (rfl)) rfl
theorem ds_X3_piece : yX3_piece.cls ≠ "java/lang/invoke/MethodHandle" ∧ yX3_piece.cls ≠ "java/lang/invoke/VarHandle" ∧ (parseMethodDescriptor yX3_piece.desc).map (fun d => d.parameters.length) = some 2 := by decide +kernel
set_option maxHeartbeats 4000000 in
set_option maxRecDepth 100000 in
theorem c_X3_checks (l : Launch) (D : gD) (B : Nat × Nat) (K : KS) (S : MS) (h : gHp) (n : Nat) (p : Int32) (j : Int32) (hS : MOK S) : Con l yX3_checks (ws_ yX3_checks cX3_checks 3 (some .int)) ({ frames := 2, cells := 0, slots := 0, locals := 44 }) D B [.ref 20, .int p, .int j] (wd K S h) n (gdt (some (.int (m_checks S p j))) (wd K ((sI S 0 0)) h) n) 0 0 := by
  have b12 := hS.c12.2
  have b13 := hS.c13.2
  have b14 := hS.c14.2
  have b16 := hS.c16.2
  have b29 := hS.c29.2
  have b30 := hS.c30.2
  have b31 := hS.c31.2
  have b48 := hS.c48.2
  have b49 := hS.c49.2
  have b50 := hS.c50.2
  have b51 := hS.c51.2
  have b77 := hS.c77.2
  have b78 := hS.c78.2
  have b79 := hS.c79.2
  have b82 := hS.c82.2
  refine Con.begin [some (.ref 20), some (.int p), some (.int j)] rfl rfl (Nat.le_of_ble_eq_true rfl) rfl rfl (fun X C R => ?_)
  refine g_aload_n C (pc := 0) dX3_checks_0 rfl rfl ?_
  refine g_iconst C (pc := 1) (v := 0) dX3_checks_1 (by decide) ?_
  refine m_puti C 0 (pc := 2) dX3_checks_2 rfl q1193 rfl rfl rfl ?_
  refine g_aload_n C (pc := 5) dX3_checks_5 rfl rfl ?_
  refine g_iload_n C (pc := 6) dX3_checks_6 rfl ?_
  refine g_callVD C (pc := 7) [.int p] [] dX3_checks_7 (c_X3_isParting l D B K (sI S 0 0) h n p ) (lw_V q1559 q1561 qs44 q87 q1562) (wd_20 _ _ _) rfl rfl ds_X3_isParting ⟨rfl, rfl⟩ ⟨Nat.le_of_ble_eq_true rfl, Nat.le_of_ble_eq_true rfl⟩ rfl rfl ⟨Nat.le_of_ble_eq_true rfl, Nat.le_of_ble_eq_true rfl⟩ (Nat.le_of_ble_eq_true rfl) rfl ?_
  refine g_if_eq C (pc := 10) (tgt := 46) dX3_checks_10 (by decide) (fun c_10 => ?_) (fun c_10 => ?_)
  · skip
    have c_10 : ¬ (isParting S p) := p2i_0.mp c_10
    refine g_iconst C (pc := 46) (v := (-1)) dX3_checks_46 (by decide) ?_
    exact g_iretD C R dX3_checks_47 (Nat.le_refl _) (Nat.le_refl _) (by unfold m_checks; first | (rw [if_pos (by  grind)] <;> first | rfl | (simp [mN_sI_ne, sI_2, p2i, b2i, *]; done) | grind) | (rw [if_neg (by  grind)] <;> first | rfl | (simp [mN_sI_ne, sI_2, p2i, b2i, *]; done) | grind)) (congrArg (fun z => wd K z h) (rfl)) rfl
  · skip
    have c_10 : (isParting S p) := p2i_n0.mp c_10
    obtain ⟨hn1, hn2, hn3, hn4⟩ := need_ok hS c_10
    refine g_iload_n C (pc := 13) dX3_checks_13 rfl ?_
    refine g_iconst C (pc := 14) (v := 0) dX3_checks_14 (by decide) ?_
    refine g_aload_n C (pc := 15) dX3_checks_15 rfl rfl ?_
    refine m_geta C 23 38 (pc := 16) dX3_checks_16 (by decide) (fun _ => rfl) q1216 rfl ?_
    refine g_iload_n C (pc := 19) dX3_checks_19 rfl ?_
    refine m_iald C (pc := 20) (v := nI (needN S p)) dX3_checks_20 (by decide) rfl (isParting.inr hS c_10) hn1 ?_
    refine g_iconst C (pc := 21) (v := 1) dX3_checks_21 (by decide) ?_
    refine g_isub C (pc := 22) dX3_checks_22 ?_
    refine g_callSD C (pc := 23) [.int j, .int 0, .int ((nI (needN S p)) - 1)] [] dX3_checks_23 (c_X3_isIn l D B (wd K (sI S 0 0) h) n j 0 ((nI (needN S p)) - 1) ) (lw_S q1458 q1459 q87 q1460) ds_X3_isIn ⟨rfl, rfl⟩ ⟨Nat.le_of_ble_eq_true rfl, Nat.le_of_ble_eq_true rfl⟩ rfl rfl ⟨Nat.le_of_ble_eq_true rfl, Nat.le_of_ble_eq_true rfl⟩ (Nat.le_of_ble_eq_true rfl) rfl ?_
    refine g_if_eq C (pc := 26) (tgt := 46) dX3_checks_26 (by decide) (fun c_26 => ?_) (fun c_26 => ?_)
    · skip
      have c_26 : ¬ (isIn j 0 ((nI (needN S p)) - 1)) := p2i_0.mp c_26
      refine g_iconst C (pc := 46) (v := (-1)) dX3_checks_46 (by decide) ?_
      exact g_iretD C R dX3_checks_47 (Nat.le_refl _) (Nat.le_refl _) (by unfold m_checks; first | (rw [if_pos (by  grind)] <;> first | rfl | (simp [mN_sI_ne, sI_2, p2i, b2i, *]; done) | grind) | (rw [if_neg (by  grind)] <;> first | rfl | (simp [mN_sI_ne, sI_2, p2i, b2i, *]; done) | grind)) (congrArg (fun z => wd K z h) (rfl)) rfl
    · skip
      have c_26 : (isIn j 0 ((nI (needN S p)) - 1)) := p2i_n0.mp c_26
      refine g_aload_n C (pc := 29) dX3_checks_29 rfl rfl ?_
      refine m_geta C 26 41 (pc := 30) dX3_checks_30 (by decide) (fun _ => rfl) q1219 rfl ?_
      refine g_bipush C (pc := 33) (v := 12) dX3_checks_33 (by decide) ?_
      refine g_iload_n C (pc := 35) dX3_checks_35 rfl ?_
      refine g_imul C (pc := 36) dX3_checks_36 ?_
      refine g_iload_n C (pc := 37) dX3_checks_37 rfl ?_
      refine g_iadd C (pc := 38) dX3_checks_38 ?_
      refine m_iald C (pc := 39) (v := (S.2.1 41) ((((12 * p) + j)).toNatClampNeg)) dX3_checks_39 (by decide) rfl (by obtain ⟨q, hq, rfl⟩ := isIn_nat hn2 (by decide) c_26; exact curve_in hS c_10 (by omega)) rfl ?_
      refine g_callSD C (pc := 40) [.int ((S.2.1 41) ((((12 * p) + j)).toNatClampNeg))] [] dX3_checks_40 (c_X3_four l D B (wd K (sI S 0 0) h) n ((S.2.1 41) ((((12 * p) + j)).toNatClampNeg)) ) (lw_S q1500 q1501 q87 q1502) ds_X3_four ⟨rfl, rfl⟩ ⟨Nat.le_of_ble_eq_true rfl, Nat.le_of_ble_eq_true rfl⟩ rfl rfl ⟨Nat.le_of_ble_eq_true rfl, Nat.le_of_ble_eq_true rfl⟩ (Nat.le_of_ble_eq_true rfl) rfl ?_
      refine g_goto C (pc := 43) (tgt := 47) dX3_checks_43 (by decide) ?_
      exact g_iretD C R dX3_checks_47 (Nat.le_refl _) (Nat.le_refl _) (by unfold m_checks; first | (rw [if_pos (by  grind)] <;> first | rfl | (simp [mN_sI_ne, sI_2, p2i, b2i, *]; done) | grind) | (rw [if_neg (by  grind)] <;> first | rfl | (simp [mN_sI_ne, sI_2, p2i, b2i, *]; done) | grind)) (congrArg (fun z => wd K z h) (rfl)) rfl
theorem ds_X3_checks : yX3_checks.cls ≠ "java/lang/invoke/MethodHandle" ∧ yX3_checks.cls ≠ "java/lang/invoke/VarHandle" ∧ (parseMethodDescriptor yX3_checks.desc).map (fun d => d.parameters.length) = some 2 := by decide +kernel
set_option maxHeartbeats 4000000 in
set_option maxRecDepth 100000 in
theorem c_X3_fits (l : Launch) (D : gD) (B : Nat × Nat) (K : KS) (S : MS) (h : gHp) (n : Nat) (p : Int32) (a : Int32) (v : Int32) (hS : MOK S) : Con l yX3_fits (ws_ yX3_fits cX3_fits 6 (some .int)) ({ frames := 2, cells := 0, slots := 0, locals := 44 }) D B [.ref 20, .int p, .int a, .int v] (wd K S h) n (gdt (some (.int (m_fits S p a v))) (wd K ((sI S 0 0)) h) n) 0 0 := by
  have b12 := hS.c12.2
  have b13 := hS.c13.2
  have b14 := hS.c14.2
  have b16 := hS.c16.2
  have b29 := hS.c29.2
  have b30 := hS.c30.2
  have b31 := hS.c31.2
  have b48 := hS.c48.2
  have b49 := hS.c49.2
  have b50 := hS.c50.2
  have b51 := hS.c51.2
  have b77 := hS.c77.2
  have b78 := hS.c78.2
  have b79 := hS.c79.2
  have b82 := hS.c82.2
  refine Con.begin [some (.ref 20), some (.int p), some (.int a), some (.int v), none, none] rfl rfl (Nat.le_of_ble_eq_true rfl) rfl rfl (fun X C R => ?_)
  refine g_aload_n C (pc := 0) dX3_fits_0 rfl rfl ?_
  refine g_iconst C (pc := 1) (v := 0) dX3_fits_1 (by decide) ?_
  refine m_puti C 0 (pc := 2) dX3_fits_2 rfl q1193 rfl rfl rfl ?_
  refine g_aload_n C (pc := 5) dX3_fits_5 rfl rfl ?_
  refine g_iload_n C (pc := 6) dX3_fits_6 rfl ?_
  refine g_iload_n C (pc := 7) dX3_fits_7 rfl ?_
  refine g_callVD C (pc := 8) [.int p, .int a] [] dX3_fits_8 (c_X3_isAmong l D B K (sI S 0 0) h n p a (hS.setI 0 rfl)) (lw_V q1567 q1569 qs45 q87 q1570) (wd_20 _ _ _) rfl rfl ds_X3_isAmong ⟨rfl, rfl⟩ ⟨Nat.le_of_ble_eq_true rfl, Nat.le_of_ble_eq_true rfl⟩ rfl rfl ⟨Nat.le_of_ble_eq_true rfl, Nat.le_of_ble_eq_true rfl⟩ (Nat.le_of_ble_eq_true rfl) rfl ?_
  refine g_if_eq C (pc := 11) (tgt := 25) dX3_fits_11 (by decide) (fun c_11 => ?_) (fun c_11 => ?_)
  · skip
    have c_11 : ¬ (isAmong S p a) := p2i_0.mp c_11
    refine g_iconst C (pc := 25) (v := (-1)) dX3_fits_25 (by decide) ?_
    exact g_iretD C R dX3_fits_26 (Nat.le_refl _) (Nat.le_refl _) (by unfold m_fits; rw [if_pos (by grind)]) (congrArg (fun z => wd K z h) (rfl)) rfl
  · skip
    have c_11 : (isAmong S p a) := p2i_n0.mp c_11
    refine g_iload_n C (pc := 14) dX3_fits_14 rfl ?_
    refine g_iconst C (pc := 15) (v := 0) dX3_fits_15 (by decide) ?_
    refine g_sipush C (pc := 16) (v := 1018) dX3_fits_16 (by decide) ?_
    refine g_callSD C (pc := 19) [.int v, .int 0, .int 1018] [] dX3_fits_19 (c_X3_isIn l D B (wd K (sI S 0 0) h) n v 0 1018 ) (lw_S q1458 q1459 q87 q1460) ds_X3_isIn ⟨rfl, rfl⟩ ⟨Nat.le_of_ble_eq_true rfl, Nat.le_of_ble_eq_true rfl⟩ rfl rfl ⟨Nat.le_of_ble_eq_true rfl, Nat.le_of_ble_eq_true rfl⟩ (Nat.le_of_ble_eq_true rfl) rfl ?_
    refine g_if_ne C (pc := 22) (tgt := 27) dX3_fits_22 (by decide) (fun c_22 => ?_) (fun c_22 => ?_)
    · skip
      have c_22 : (isIn v 0 1018) := p2i_n0.mp c_22
      refine g_iconst C (pc := 27) (v := 1) dX3_fits_27 (by decide) ?_
      refine g_istore C (pc := 28) (L' := [some (.ref 20), some (.int p), some (.int a), some (.int v), some (.int 1), none]) dX3_fits_28 (by decide) rfl rfl ?_
      refine g_iconst C (pc := 30) (v := 0) dX3_fits_30 (by decide) ?_
      refine g_istore C (pc := 31) (L' := [some (.ref 20), some (.int p), some (.int a), some (.int v), some (.int 1), some (.int 0)]) dX3_fits_31 (by decide) rfl rfl ?_
      obtain ⟨hn1, hn2, hn3, hn4⟩ := need_ok hS c_11.1
      have loop_33 : ∀ (d33 : Nat) (j : Nat) (x : Int32), (j ≤ needN S p) → (x = fitU (curveA S p) (a + 1) j) → needN S p - j < d33 → G X D B (wd K (sI S 0 0) h) n 0 0 [some (.ref 20), some (.int p), some (.int a), some (.int v), some (.int x), some (.int (nI j))] 33 [] := by
        intro d33
        induction d33 with
        | zero =>
          intro j x hj hx hm33
          exact absurd hm33 (Nat.not_lt_zero _)
        | succ d33 ih33 =>
          intro j x hj hx hm33
          refine g_iload C (pc := 33) dX3_fits_33 rfl ?_
          refine g_aload_n C (pc := 35) dX3_fits_35 rfl rfl ?_
          refine m_geta C 23 38 (pc := 36) dX3_fits_36 (by decide) (fun _ => rfl) q1216 rfl ?_
          refine g_iload_n C (pc := 39) dX3_fits_39 rfl ?_
          refine m_iald C (pc := 40) (v := nI (needN S p)) dX3_fits_40 (by decide) rfl (isParting.inr hS c_11.1) hn1 ?_
          refine g_icmp_ge C (pc := 41) (tgt := 91) dX3_fits_41 (by decide) (fun c_41 => ?_) (fun c_41 => ?_)
          · skip
            have c_41 : (needN S p) ≤ j := Nat.not_lt.mp fun q => c_41 ((nI_ltI (a := j) (b := (needN S p)) (by omega) (by omega)).mpr q)
            have hje : j = needN S p := by omega
            subst hje
            refine g_iload_n C (pc := 91) dX3_fits_91 rfl ?_
            refine g_callSD C (pc := 92) [.int v] [] dX3_fits_92 (c_X3_four l D B (wd K (sI S 0 0) h) n v ) (lw_S q1500 q1501 q87 q1502) ds_X3_four ⟨rfl, rfl⟩ ⟨Nat.le_of_ble_eq_true rfl, Nat.le_of_ble_eq_true rfl⟩ rfl rfl ⟨Nat.le_of_ble_eq_true rfl, Nat.le_of_ble_eq_true rfl⟩ (Nat.le_of_ble_eq_true rfl) rfl ?_
            refine g_iload C (pc := 95) dX3_fits_95 rfl ?_
            refine g_icmp_ne C (pc := 97) (tgt := 104) dX3_fits_97 (by decide) (fun c_97 => ?_) (fun c_97 => ?_)
            · skip
              have c_97 : ¬ ((four v) : Int32) = x := c_97
              refine g_iconst C (pc := 104) (v := 0) dX3_fits_104 (by decide) ?_
              exact g_iretD C R dX3_fits_105 (Nat.le_refl _) (Nat.le_refl _) (by unfold m_fits; rw [if_neg (by grind)]; subst hx; grind [p2i]) (congrArg (fun z => wd K z h) (rfl)) rfl
            · skip
              have c_97 : ((four v) : Int32) = x := c_97
              refine g_iconst C (pc := 100) (v := 1) dX3_fits_100 (by decide) ?_
              refine g_goto C (pc := 101) (tgt := 105) dX3_fits_101 (by decide) ?_
              exact g_iretD C R dX3_fits_105 (Nat.le_refl _) (Nat.le_refl _) (by unfold m_fits; rw [if_neg (by grind)]; subst hx; grind [p2i]) (congrArg (fun z => wd K z h) (rfl)) rfl
          · skip
            have c_41 : j < (needN S p) := (nI_ltI (a := j) (b := (needN S p)) (by omega) (by omega)).mp c_41
            refine g_iload C (pc := 44) dX3_fits_44 rfl ?_
            refine g_aload_n C (pc := 46) dX3_fits_46 rfl rfl ?_
            refine m_geta C 26 41 (pc := 47) dX3_fits_47 (by decide) (fun _ => rfl) q1219 rfl ?_
            refine g_bipush C (pc := 50) (v := 12) dX3_fits_50 (by decide) ?_
            refine g_iload_n C (pc := 52) dX3_fits_52 rfl ?_
            refine g_imul C (pc := 53) dX3_fits_53 ?_
            refine g_iload C (pc := 54) dX3_fits_54 rfl ?_
            refine g_iadd C (pc := 56) dX3_fits_56 ?_
            refine m_iald C (pc := 57) (v := (S.2.1 41) ((((12 * p) + (nI j))).toNatClampNeg)) dX3_fits_57 (by decide) rfl (curve_in hS c_11.1 (by omega)) rfl ?_
            refine g_callSD C (pc := 58) [.int ((S.2.1 41) ((((12 * p) + (nI j))).toNatClampNeg))] [.int x] dX3_fits_58 (c_X3_four l D B (wd K (sI S 0 0) h) n ((S.2.1 41) ((((12 * p) + (nI j))).toNatClampNeg)) ) (lw_S q1500 q1501 q87 q1502) ds_X3_four ⟨rfl, rfl⟩ ⟨Nat.le_of_ble_eq_true rfl, Nat.le_of_ble_eq_true rfl⟩ rfl rfl ⟨Nat.le_of_ble_eq_true rfl, Nat.le_of_ble_eq_true rfl⟩ (Nat.le_of_ble_eq_true rfl) rfl ?_
            refine g_iload_n C (pc := 61) dX3_fits_61 rfl ?_
            refine g_iconst C (pc := 62) (v := 1) dX3_fits_62 (by decide) ?_
            refine g_iadd C (pc := 63) dX3_fits_63 ?_
            refine g_iload C (pc := 64) dX3_fits_64 rfl ?_
            refine g_sipush C (pc := 66) (v := 1019) dX3_fits_66 (by decide) ?_
            refine g_callSD C (pc := 69) [.int (a + 1), .int (nI j), .int 1019] [.int (four ((S.2.1 41) ((((12 * p) + (nI j))).toNatClampNeg))), .int x] dX3_fits_69 (c_X3_power l D B (wd K (sI S 0 0) h) n (a + 1) (nI j) 1019 (by decide)) (lw_S q1503 q1504 q87 q1505) ds_X3_power ⟨rfl, rfl⟩ ⟨Nat.le_of_ble_eq_true rfl, Nat.le_of_ble_eq_true rfl⟩ rfl rfl ⟨Nat.le_of_ble_eq_true rfl, Nat.le_of_ble_eq_true rfl⟩ (Nat.le_of_ble_eq_true rfl) rfl ?_
            refine g_sipush C (pc := 72) (v := 2039) dX3_fits_72 (by decide) ?_
            refine g_callSD C (pc := 75) [.int (four ((S.2.1 41) ((((12 * p) + (nI j))).toNatClampNeg))), .int (pwr (a + 1) 1019 (nI j).toNatClampNeg), .int 2039] [.int x] dX3_fits_75 (c_X3_power l D B (wd K (sI S 0 0) h) n (four ((S.2.1 41) ((((12 * p) + (nI j))).toNatClampNeg))) (pwr (a + 1) 1019 (nI j).toNatClampNeg) 2039 (by decide)) (lw_S q1503 q1504 q87 q1505) ds_X3_power ⟨rfl, rfl⟩ ⟨Nat.le_of_ble_eq_true rfl, Nat.le_of_ble_eq_true rfl⟩ rfl rfl ⟨Nat.le_of_ble_eq_true rfl, Nat.le_of_ble_eq_true rfl⟩ (Nat.le_of_ble_eq_true rfl) rfl ?_
            refine g_imul C (pc := 78) dX3_fits_78 ?_
            refine g_sipush C (pc := 79) (v := 2039) dX3_fits_79 (by decide) ?_
            refine g_irem C (pc := 82) dX3_fits_82 (by decide) ?_
            refine G.topi (fun x_83 e_x_83 => ?_)
            have e_x_83 : x_83 = jrem (x * (pwr (four ((S.2.1 41) ((((12 * p) + (nI j))).toNatClampNeg))) 2039 (pwr (a + 1) 1019 (nI j).toNatClampNeg).toNatClampNeg)) 2039 := e_x_83
            refine g_istore C (pc := 83) (L' := [some (.ref 20), some (.int p), some (.int a), some (.int v), some (.int x_83), some (.int (nI j))]) dX3_fits_83 (by decide) rfl rfl ?_
            refine g_iinc C (pc := 85) (v := nI (j + 1)) (L' := [some (.ref 20), some (.int p), some (.int a), some (.int v), some (.int x_83), some (.int (nI (j + 1)))]) dX3_fits_85 rfl (nI_inc _) (by decide) rfl rfl ?_
            refine g_goto C (pc := 88) (tgt := 33) dX3_fits_88 (by decide) ?_
            refine G.mask [true, true, true, true, true, true] rfl ?_
            exact ih33 (j + 1) x_83 (by omega) (by rw [e_x_83, hx]; simp only [fitU]; rw [nI_clamp (by omega)]; rfl) (by omega)
      refine G.mask [true, true, true, true, true, true] rfl ?_
      exact loop_33 _ 0 1 (Nat.zero_le _) (rfl) (Nat.lt_succ_self _)
    · skip
      have c_22 : ¬ (isIn v 0 1018) := p2i_0.mp c_22
      refine g_iconst C (pc := 25) (v := (-1)) dX3_fits_25 (by decide) ?_
      exact g_iretD C R dX3_fits_26 (Nat.le_refl _) (Nat.le_refl _) (by unfold m_fits; rw [if_pos (by grind)]) (congrArg (fun z => wd K z h) (rfl)) rfl
theorem ds_X3_fits : yX3_fits.cls ≠ "java/lang/invoke/MethodHandle" ∧ yX3_fits.cls ≠ "java/lang/invoke/VarHandle" ∧ (parseMethodDescriptor yX3_fits.desc).map (fun d => d.parameters.length) = some 3 := by decide +kernel
set_option maxHeartbeats 4000000 in
set_option maxRecDepth 100000 in
theorem c_X3_lay (l : Launch) (D : gD) (B : Nat × Nat) (K : KS) (S : MS) (h : gHp) (n : Nat) (a : Int32) (v : Int32) (hS : MOK S) : Con l yX3_lay (ws_ yX3_lay cX3_lay 4 (some .int)) ({ frames := 1, cells := 0, slots := 0, locals := 22 }) D B [.ref 20, .int a, .int v] (wd K S h) n (gdt (some (.int ((m_lay S a v).2))) (wd K ((m_lay S a v).1) h) n) 0 0 := by
  have b12 := hS.c12.2
  have b13 := hS.c13.2
  have b14 := hS.c14.2
  have b16 := hS.c16.2
  have b29 := hS.c29.2
  have b30 := hS.c30.2
  have b31 := hS.c31.2
  have b48 := hS.c48.2
  have b49 := hS.c49.2
  have b50 := hS.c50.2
  have b51 := hS.c51.2
  have b77 := hS.c77.2
  have b78 := hS.c78.2
  have b79 := hS.c79.2
  have b82 := hS.c82.2
  refine Con.begin [some (.ref 20), some (.int a), some (.int v), none] rfl rfl (Nat.le_of_ble_eq_true rfl) rfl rfl (fun X C R => ?_)
  refine g_aload_n C (pc := 0) dX3_lay_0 rfl rfl ?_
  refine g_iconst C (pc := 1) (v := 0) dX3_lay_1 (by decide) ?_
  refine m_puti C 0 (pc := 2) dX3_lay_2 rfl q1193 rfl rfl rfl ?_
  refine g_aload_n C (pc := 5) dX3_lay_5 rfl rfl ?_
  refine g_iload_n C (pc := 6) dX3_lay_6 rfl ?_
  refine g_callVD C (pc := 7) [.int a] [] dX3_lay_7 (c_X3_isHolder l D B K (sI S 0 0) h n a ) (lw_V q1514 q1516 qs40 q87 q1517) (wd_20 _ _ _) rfl rfl ds_X3_isHolder ⟨rfl, rfl⟩ ⟨Nat.le_of_ble_eq_true rfl, Nat.le_of_ble_eq_true rfl⟩ rfl rfl ⟨Nat.le_of_ble_eq_true rfl, Nat.le_of_ble_eq_true rfl⟩ (Nat.le_of_ble_eq_true rfl) rfl ?_
  refine g_if_eq C (pc := 10) (tgt := 24) dX3_lay_10 (by decide) (fun c_10 => ?_) (fun c_10 => ?_)
  · skip
    have c_10 : ¬ (isHolder S a) := p2i_0.mp c_10
    refine g_iconst C (pc := 24) (v := (-1)) dX3_lay_24 (by decide) ?_
    exact g_iretD C R dX3_lay_25 (Nat.le_refl _) (Nat.le_refl _) (by unfold m_lay; first | (rw [if_pos (by  grind)] <;> first | rfl | (simp [mN_sI_ne, sI_2, p2i, b2i, *]; done) | grind) | (rw [if_neg (by  grind)] <;> first | rfl | (simp [mN_sI_ne, sI_2, p2i, b2i, *]; done) | grind)) (congrArg (fun z => wd K z h) (by unfold m_lay; first | (rw [if_pos (by  grind)] <;> first | rfl | (simp [mN_sI_ne, sI_2, p2i, b2i, *]; done) | grind) | (rw [if_neg (by  grind)] <;> first | rfl | (simp [mN_sI_ne, sI_2, p2i, b2i, *]; done) | grind))) rfl
  · skip
    have c_10 : (isHolder S a) := p2i_n0.mp c_10
    refine g_iload_n C (pc := 13) dX3_lay_13 rfl ?_
    refine g_iconst C (pc := 14) (v := 0) dX3_lay_14 (by decide) ?_
    refine g_sipush C (pc := 15) (v := 1018) dX3_lay_15 (by decide) ?_
    refine g_callSD C (pc := 18) [.int v, .int 0, .int 1018] [] dX3_lay_18 (c_X3_isIn l D B (wd K (sI S 0 0) h) n v 0 1018 ) (lw_S q1458 q1459 q87 q1460) ds_X3_isIn ⟨rfl, rfl⟩ ⟨Nat.le_of_ble_eq_true rfl, Nat.le_of_ble_eq_true rfl⟩ rfl rfl ⟨Nat.le_of_ble_eq_true rfl, Nat.le_of_ble_eq_true rfl⟩ (Nat.le_of_ble_eq_true rfl) rfl ?_
    refine g_if_ne C (pc := 21) (tgt := 26) dX3_lay_21 (by decide) (fun c_21 => ?_) (fun c_21 => ?_)
    · skip
      have c_21 : (isIn v 0 1018) := p2i_n0.mp c_21
      refine g_iconst C (pc := 26) (v := 0) dX3_lay_26 (by decide) ?_
      refine g_istore_n C (pc := 27) (L' := [some (.ref 20), some (.int a), some (.int v), some (.int 0)]) dX3_lay_27 (by decide) rfl rfl ?_
      have loop_28 : ∀ (d28 : Nat) (j : Nat), (j ≤ (mN S 31)) → (layB S.2.1 a j = false) → (mN S 31) - j < d28 → G X D B (wd K (sI S 0 0) h) n 0 0 [some (.ref 20), some (.int a), some (.int v), some (.int (nI j))] 28 [] := by
        intro d28
        induction d28 with
        | zero =>
          intro j hj hx hm28
          exact absurd hm28 (Nat.not_lt_zero _)
        | succ d28 ih28 =>
          intro j hj hx hm28
          refine g_iload_n C (pc := 28) dX3_lay_28 rfl ?_
          refine g_aload_n C (pc := 29) dX3_lay_29 rfl rfl ?_
          refine m_geti C 31 (pc := 30) (v := nI (mN S 31)) dX3_lay_30 rfl q1224 rfl hS.c31.1 ?_
          refine g_icmp_ge C (pc := 33) (tgt := 54) dX3_lay_33 (by decide) (fun c_33 => ?_) (fun c_33 => ?_)
          · skip
            have c_33 : (mN S 31) ≤ j := Nat.not_lt.mp fun q => c_33 ((nI_ltI (a := j) (b := (mN S 31)) (by omega) (by omega)).mpr q)
            have hje : j = (mN S 31) := by omega
            subst hje
            have hbl : (mN S 31) < 12 := lay_room hS hx c_10
            refine g_aload_n C (pc := 54) dX3_lay_54 rfl rfl ?_
            refine m_geta C 27 42 (pc := 55) dX3_lay_55 (by decide) (fun _ => rfl) q1220 rfl ?_
            refine g_aload_n C (pc := 58) dX3_lay_58 rfl rfl ?_
            refine m_geti C 31 (pc := 59) (v := nI (mN S 31)) dX3_lay_59 rfl q1224 rfl hS.c31.1 ?_
            refine g_iload_n C (pc := 62) dX3_lay_62 rfl ?_
            refine m_iast C (pc := 63) (j := (mN S 31)) dX3_lay_63 (by decide) rfl (vp_in_nI (by omega) (by decide)) (nI_clamp (by omega)) ?_
            refine g_aload_n C (pc := 64) dX3_lay_64 rfl rfl ?_
            refine m_geta C 28 43 (pc := 65) dX3_lay_65 (by decide) (fun _ => rfl) q1221 rfl ?_
            refine g_aload_n C (pc := 68) dX3_lay_68 rfl rfl ?_
            refine m_geti C 31 (pc := 69) (v := nI (mN S 31)) dX3_lay_69 rfl q1224 rfl hS.c31.1 ?_
            refine g_iload_n C (pc := 72) dX3_lay_72 rfl ?_
            refine m_iast C (pc := 73) (j := (mN S 31)) dX3_lay_73 (by decide) rfl (vp_in_nI (by omega) (by decide)) (nI_clamp (by omega)) ?_
            refine g_aload_n C (pc := 74) dX3_lay_74 rfl rfl ?_
            refine g_dup C (pc := 75) dX3_lay_75 rfl ?_
            refine m_geti C 31 (pc := 76) (v := nI (mN S 31)) dX3_lay_76 rfl q1224 rfl hS.c31.1 ?_
            refine g_iconst C (pc := 79) (v := 1) dX3_lay_79 (by decide) ?_
            refine g_iadd C (pc := 80) dX3_lay_80 ?_
            refine G.topc (nI_1 _) ?_
            refine m_puti C 31 (pc := 81) dX3_lay_81 rfl q1224 rfl rfl rfl ?_
            refine g_aload_n C (pc := 84) dX3_lay_84 rfl rfl ?_
            refine m_geti C 31 (pc := 85) (v := nI ((mN S 31) + 1)) dX3_lay_85 rfl q1224 rfl rfl ?_
            exact g_iretD C R dX3_lay_88 (Nat.le_refl _) (Nat.le_refl _) (by unfold m_lay; first | (rw [if_pos (by  grind)] <;> first | rfl | (simp [mN_sI_ne, sI_2, p2i, b2i, *]; done) | grind) | (rw [if_neg (by  grind)] <;> first | rfl | (simp [mN_sI_ne, sI_2, p2i, b2i, *]; done) | grind)) (congrArg (fun z => wd K z h) (by unfold m_lay; first | (rw [if_pos (by  grind)] <;> first | rfl | (simp [mN_sI_ne, sI_2, p2i, b2i, *]; done) | grind) | (rw [if_neg (by  grind)] <;> first | rfl | (simp [mN_sI_ne, sI_2, p2i, b2i, *]; done) | grind))) rfl
          · skip
            have c_33 : j < (mN S 31) := (nI_ltI (a := j) (b := (mN S 31)) (by omega) (by omega)).mp c_33
            refine g_aload_n C (pc := 36) dX3_lay_36 rfl rfl ?_
            refine m_geta C 27 42 (pc := 37) dX3_lay_37 (by decide) (fun _ => rfl) q1220 rfl ?_
            refine g_iload_n C (pc := 40) dX3_lay_40 rfl ?_
            refine m_iald C (pc := 41) (v := (S.2.1 42) j) dX3_lay_41 (by decide) rfl (vp_in_nI (by omega) (by decide)) (gix (S.2.1 42) (by omega)) ?_
            refine g_iload_n C (pc := 42) dX3_lay_42 rfl ?_
            refine g_icmp_ne C (pc := 43) (tgt := 48) dX3_lay_43 (by decide) (fun c_43 => ?_) (fun c_43 => ?_)
            · skip
              have c_43 : ¬ (((S.2.1 42) j) : Int32) = a := c_43
              refine g_iinc C (pc := 48) (v := nI (j + 1)) (L' := [some (.ref 20), some (.int a), some (.int v), some (.int (nI (j + 1)))]) dX3_lay_48 rfl (nI_inc _) (by decide) rfl rfl ?_
              refine g_goto C (pc := 51) (tgt := 28) dX3_lay_51 (by decide) ?_
              refine G.mask [true, true, true, true] rfl ?_
              exact ih28 (j + 1) (by omega) (by simp [layB, hx, c_43]) (by omega)
            · skip
              have c_43 : (((S.2.1 42) j) : Int32) = a := c_43
              have hlb : layB S.2.1 a (mN S 31) = true := layB_mono (i := j + 1) (by simp [layB, c_43]) (by omega)
              refine g_iconst C (pc := 46) (v := (-1)) dX3_lay_46 (by decide) ?_
              exact g_iretD C R dX3_lay_47 (Nat.le_refl _) (Nat.le_refl _) (by unfold m_lay; first | (rw [if_pos (by  grind)] <;> first | rfl | (simp [mN_sI_ne, sI_2, p2i, b2i, *]; done) | grind) | (rw [if_neg (by  grind)] <;> first | rfl | (simp [mN_sI_ne, sI_2, p2i, b2i, *]; done) | grind)) (congrArg (fun z => wd K z h) (by unfold m_lay; first | (rw [if_pos (by  grind)] <;> first | rfl | (simp [mN_sI_ne, sI_2, p2i, b2i, *]; done) | grind) | (rw [if_neg (by  grind)] <;> first | rfl | (simp [mN_sI_ne, sI_2, p2i, b2i, *]; done) | grind))) rfl
      refine G.mask [true, true, true, true] rfl ?_
      exact loop_28 _ 0 (Nat.zero_le _) (rfl) (Nat.lt_succ_self _)
    · skip
      have c_21 : ¬ (isIn v 0 1018) := p2i_0.mp c_21
      refine g_iconst C (pc := 24) (v := (-1)) dX3_lay_24 (by decide) ?_
      exact g_iretD C R dX3_lay_25 (Nat.le_refl _) (Nat.le_refl _) (by unfold m_lay; first | (rw [if_pos (by  grind)] <;> first | rfl | (simp [mN_sI_ne, sI_2, p2i, b2i, *]; done) | grind) | (rw [if_neg (by  grind)] <;> first | rfl | (simp [mN_sI_ne, sI_2, p2i, b2i, *]; done) | grind)) (congrArg (fun z => wd K z h) (by unfold m_lay; first | (rw [if_pos (by  grind)] <;> first | rfl | (simp [mN_sI_ne, sI_2, p2i, b2i, *]; done) | grind) | (rw [if_neg (by  grind)] <;> first | rfl | (simp [mN_sI_ne, sI_2, p2i, b2i, *]; done) | grind))) rfl
theorem ds_X3_lay : yX3_lay.cls ≠ "java/lang/invoke/MethodHandle" ∧ yX3_lay.cls ≠ "java/lang/invoke/VarHandle" ∧ (parseMethodDescriptor yX3_lay.desc).map (fun d => d.parameters.length) = some 2 := by decide +kernel
set_option maxHeartbeats 4000000 in
set_option maxRecDepth 100000 in
theorem c_X3_join (l : Launch) (D : gD) (B : Nat × Nat) (K : KS) (S : MS) (h : gHp) (n : Nat)  (hS : MOK S) : Con l yX3_join (ws_ yX3_join cX3_join 4 (some .int)) ({ frames := 3, cells := 0, slots := 0, locals := 67 }) D B [.ref 20] (wd K S h) n (gdt (some (.int ((m_join S).2))) (wd K ((m_join S).1) h) n) 0 0 := by
  have b12 := hS.c12.2
  have b13 := hS.c13.2
  have b14 := hS.c14.2
  have b16 := hS.c16.2
  have b29 := hS.c29.2
  have b30 := hS.c30.2
  have b31 := hS.c31.2
  have b48 := hS.c48.2
  have b49 := hS.c49.2
  have b50 := hS.c50.2
  have b51 := hS.c51.2
  have b77 := hS.c77.2
  have b78 := hS.c78.2
  have b79 := hS.c79.2
  have b82 := hS.c82.2
  refine Con.begin [some (.ref 20), none, none, none] rfl rfl (Nat.le_of_ble_eq_true rfl) rfl rfl (fun X C R => ?_)
  refine g_aload_n C (pc := 0) dX3_join_0 rfl rfl ?_
  refine g_iconst C (pc := 1) (v := 0) dX3_join_1 (by decide) ?_
  refine m_puti C 0 (pc := 2) dX3_join_2 rfl q1193 rfl rfl rfl ?_
  refine g_aload_n C (pc := 5) dX3_join_5 rfl rfl ?_
  refine m_geti C 31 (pc := 6) (v := nI (mN S 31)) dX3_join_6 rfl q1224 rfl hS.c31.1 ?_
  refine g_if_ne C (pc := 9) (tgt := 14) dX3_join_9 (by decide) (fun c_9 => ?_) (fun c_9 => ?_)
  · skip
    have c_9 : ¬ (mN S 31) = 0 := fun q => c_9 (by rw [q]; rfl)
    refine g_iconst C (pc := 14) (v := 0) dX3_join_14 (by decide) ?_
    refine g_istore_n C (pc := 15) (L' := [some (.ref 20), some (.int 0), none, none]) dX3_join_15 (by decide) rfl rfl ?_
    refine g_iconst C (pc := 16) (v := 0) dX3_join_16 (by decide) ?_
    refine g_istore_n C (pc := 17) (L' := [some (.ref 20), some (.int 0), some (.int 0), none]) dX3_join_17 (by decide) rfl rfl ?_
    have loop_18 : ∀ (d18 : Nat) (j : Nat) (x : Int32), (j ≤ (mN S 31)) → (x = joinS S.2.1 j) → (mN S 31) - j < d18 → G X D B (wd K (sI S 0 0) h) n 0 0 [some (.ref 20), some (.int x), some (.int (nI j)), none] 18 [] := by
      intro d18
      induction d18 with
      | zero =>
        intro j x hj hx hm18
        exact absurd hm18 (Nat.not_lt_zero _)
      | succ d18 ih18 =>
        intro j x hj hx hm18
        refine g_iload_n C (pc := 18) dX3_join_18 rfl ?_
        refine g_aload_n C (pc := 19) dX3_join_19 rfl rfl ?_
        refine m_geti C 31 (pc := 20) (v := nI (mN S 31)) dX3_join_20 rfl q1224 rfl hS.c31.1 ?_
        refine g_icmp_ge C (pc := 23) (tgt := 43) dX3_join_23 (by decide) (fun c_23 => ?_) (fun c_23 => ?_)
        · skip
          have c_23 : (mN S 31) ≤ j := Nat.not_lt.mp fun q => c_23 ((nI_ltI (a := j) (b := (mN S 31)) (by omega) (by omega)).mpr q)
          have hje : j = (mN S 31) := by omega
          subst hje
          subst hx
          refine g_iconst C (pc := 43) (v := 0) dX3_join_43 (by decide) ?_
          refine g_istore_n C (pc := 44) (L' := [some (.ref 20), some (.int (joinS S.2.1 (mN S 31))), some (.int 0), none]) dX3_join_44 (by decide) rfl rfl ?_
          refine g_iconst C (pc := 45) (v := 0) dX3_join_45 (by decide) ?_
          refine g_istore_n C (pc := 46) (L' := [some (.ref 20), some (.int (joinS S.2.1 (mN S 31))), some (.int 0), some (.int 0)]) dX3_join_46 (by decide) rfl rfl ?_
          have loop_47 : ∀ (d47 : Nat) (j : Nat) (x : Int32), (j ≤ (mN S 31)) → (x = joinU S.2.1 (joinS S.2.1 (mN S 31)) j) → (mN S 31) - j < d47 → G X D B (wd K (sI S 0 0) h) n 0 0 [some (.ref 20), some (.int (joinS S.2.1 (mN S 31))), some (.int x), some (.int (nI j))] 47 [] := by
            intro d47
            induction d47 with
            | zero =>
              intro j x hj hx2 hm47
              exact absurd hm47 (Nat.not_lt_zero _)
            | succ d47 ih47 =>
              intro j x hj hx2 hm47
              refine g_iload_n C (pc := 47) dX3_join_47 rfl ?_
              refine g_aload_n C (pc := 48) dX3_join_48 rfl rfl ?_
              refine m_geti C 31 (pc := 49) (v := nI (mN S 31)) dX3_join_49 rfl q1224 rfl hS.c31.1 ?_
              refine g_icmp_ge C (pc := 52) (tgt := 85) dX3_join_52 (by decide) (fun c_52 => ?_) (fun c_52 => ?_)
              · skip
                have c_52 : (mN S 31) ≤ j := Nat.not_lt.mp fun q => c_52 ((nI_ltI (a := j) (b := (mN S 31)) (by omega) (by omega)).mpr q)
                have hje : j = (mN S 31) := by omega
                subst hje
                subst hx2
                refine g_aload_n C (pc := 85) dX3_join_85 rfl rfl ?_
                refine g_iconst C (pc := 86) (v := 0) dX3_join_86 (by decide) ?_
                refine m_puti C 31 (pc := 87) dX3_join_87 rfl q1224 rfl rfl rfl ?_
                refine g_iload_n C (pc := 90) dX3_join_90 rfl ?_
                exact g_iretD C R dX3_join_91 (Nat.le_refl _) (Nat.le_refl _) (by unfold m_join; first | (rw [if_pos (by  grind)] <;> first | rfl | (simp [mN_sI_ne, sI_2, p2i, b2i, *]; done) | grind) | (rw [if_neg (by  grind)] <;> first | rfl | (simp [mN_sI_ne, sI_2, p2i, b2i, *]; done) | grind)) (congrArg (fun z => wd K z h) (by unfold m_join; first | (rw [if_pos (by  grind)] <;> first | rfl | (simp [mN_sI_ne, sI_2, p2i, b2i, *]; done) | grind) | (rw [if_neg (by  grind)] <;> first | rfl | (simp [mN_sI_ne, sI_2, p2i, b2i, *]; done) | grind))) rfl
              · skip
                have c_52 : j < (mN S 31) := (nI_ltI (a := j) (b := (mN S 31)) (by omega) (by omega)).mp c_52
                refine g_iload_n C (pc := 55) dX3_join_55 rfl ?_
                refine g_aload_n C (pc := 56) dX3_join_56 rfl rfl ?_
                refine m_geta C 28 43 (pc := 57) dX3_join_57 (by decide) (fun _ => rfl) q1221 rfl ?_
                refine g_iload_n C (pc := 60) dX3_join_60 rfl ?_
                refine m_iald C (pc := 61) (v := (S.2.1 43) j) dX3_join_61 (by decide) rfl (vp_in_nI (by omega) (by decide)) (gix (S.2.1 43) (by omega)) ?_
                refine g_aload_n C (pc := 62) dX3_join_62 rfl rfl ?_
                refine m_geta C 27 42 (pc := 63) dX3_join_63 (by decide) (fun _ => rfl) q1220 rfl ?_
                refine g_iload_n C (pc := 66) dX3_join_66 rfl ?_
                refine m_iald C (pc := 67) (v := (S.2.1 42) j) dX3_join_67 (by decide) rfl (vp_in_nI (by omega) (by decide)) (gix (S.2.1 42) (by omega)) ?_
                refine g_iload_n C (pc := 68) dX3_join_68 rfl ?_
                refine g_callSD C (pc := 69) [.int ((S.2.1 42) j), .int (joinS S.2.1 (mN S 31))] [.int ((S.2.1 43) j), .int x] dX3_join_69 (c_X3_weight l D B (wd K (sI S 0 0) h) n ((S.2.1 42) j) (joinS S.2.1 (mN S 31)) ) (lw_S q1591 q1592 q87 q1593) ds_X3_weight ⟨rfl, rfl⟩ ⟨Nat.le_of_ble_eq_true rfl, Nat.le_of_ble_eq_true rfl⟩ rfl rfl ⟨Nat.le_of_ble_eq_true rfl, Nat.le_of_ble_eq_true rfl⟩ (Nat.le_of_ble_eq_true rfl) rfl ?_
                refine g_imul C (pc := 72) dX3_join_72 ?_
                refine g_iadd C (pc := 73) dX3_join_73 ?_
                refine g_sipush C (pc := 74) (v := 1019) dX3_join_74 (by decide) ?_
                refine g_irem C (pc := 77) dX3_join_77 (by decide) ?_
                refine G.topi (fun x_78 e_x_78 => ?_)
                have e_x_78 : x_78 = jrem (x + (((S.2.1 43) j) * (weight ((S.2.1 42) j) (joinS S.2.1 (mN S 31))))) 1019 := e_x_78
                refine g_istore_n C (pc := 78) (L' := [some (.ref 20), some (.int (joinS S.2.1 (mN S 31))), some (.int x_78), some (.int (nI j))]) dX3_join_78 (by decide) rfl rfl ?_
                refine g_iinc C (pc := 79) (v := nI (j + 1)) (L' := [some (.ref 20), some (.int (joinS S.2.1 (mN S 31))), some (.int x_78), some (.int (nI (j + 1)))]) dX3_join_79 rfl (nI_inc _) (by decide) rfl rfl ?_
                refine g_goto C (pc := 82) (tgt := 47) dX3_join_82 (by decide) ?_
                refine G.mask [true, true, true, true] rfl ?_
                exact ih47 (j + 1) x_78 (by omega) (by rw [e_x_78, hx2]; rfl) (by omega)
          refine G.mask [true, true, true, true] rfl ?_
          exact loop_47 _ 0 0 (Nat.zero_le _) (rfl) (Nat.lt_succ_self _)
        · skip
          have c_23 : j < (mN S 31) := (nI_ltI (a := j) (b := (mN S 31)) (by omega) (by omega)).mp c_23
          refine g_iload_n C (pc := 26) dX3_join_26 rfl ?_
          refine g_iconst C (pc := 27) (v := 1) dX3_join_27 (by decide) ?_
          refine g_aload_n C (pc := 28) dX3_join_28 rfl rfl ?_
          refine m_geta C 27 42 (pc := 29) dX3_join_29 (by decide) (fun _ => rfl) q1220 rfl ?_
          refine g_iload_n C (pc := 32) dX3_join_32 rfl ?_
          refine m_iald C (pc := 33) (v := (S.2.1 42) j) dX3_join_33 (by decide) rfl (vp_in_nI (by omega) (by decide)) (gix (S.2.1 42) (by omega)) ?_
          refine g_ishl C (pc := 34) dX3_join_34 ?_
          refine g_ior C (pc := 35) dX3_join_35 ?_
          refine G.topi (fun x_36 e_x_36 => ?_)
          have e_x_36 : x_36 = x ||| (1 <<< (((S.2.1 42) j) &&& 31)) := e_x_36
          refine g_istore_n C (pc := 36) (L' := [some (.ref 20), some (.int x_36), some (.int (nI j)), none]) dX3_join_36 (by decide) rfl rfl ?_
          refine g_iinc C (pc := 37) (v := nI (j + 1)) (L' := [some (.ref 20), some (.int x_36), some (.int (nI (j + 1))), none]) dX3_join_37 rfl (nI_inc _) (by decide) rfl rfl ?_
          refine g_goto C (pc := 40) (tgt := 18) dX3_join_40 (by decide) ?_
          refine G.mask [true, true, true, false] rfl ?_
          exact ih18 (j + 1) x_36 (by omega) (by rw [e_x_36, hx]; rfl) (by omega)
    refine G.mask [true, true, true, false] rfl ?_
    exact loop_18 _ 0 0 (Nat.zero_le _) (rfl) (Nat.lt_succ_self _)
  · skip
    have c_9 : (mN S 31) = 0 := (nI_eq (b := 0) (by omega) (by decide)).mp c_9
    refine g_iconst C (pc := 12) (v := (-1)) dX3_join_12 (by decide) ?_
    exact g_iretD C R dX3_join_13 (Nat.le_refl _) (Nat.le_refl _) (by unfold m_join; first | (rw [if_pos (by  grind)] <;> first | rfl | (simp [mN_sI_ne, sI_2, p2i, b2i, *]; done) | grind) | (rw [if_neg (by  grind)] <;> first | rfl | (simp [mN_sI_ne, sI_2, p2i, b2i, *]; done) | grind)) (congrArg (fun z => wd K z h) (by unfold m_join; first | (rw [if_pos (by  grind)] <;> first | rfl | (simp [mN_sI_ne, sI_2, p2i, b2i, *]; done) | grind) | (rw [if_neg (by  grind)] <;> first | rfl | (simp [mN_sI_ne, sI_2, p2i, b2i, *]; done) | grind))) rfl
theorem ds_X3_join : yX3_join.cls ≠ "java/lang/invoke/MethodHandle" ∧ yX3_join.cls ≠ "java/lang/invoke/VarHandle" ∧ (parseMethodDescriptor yX3_join.desc).map (fun d => d.parameters.length) = some 0 := by decide +kernel
set_option maxHeartbeats 4000000 in
set_option maxRecDepth 100000 in
theorem c_X3_left (l : Launch) (D : gD) (B : Nat × Nat) (K : KS) (S : MS) (h : gHp) (n : Nat) (p : Int32) (s : Int32) (hS : MOK S) : Con l yX3_left (ws_ yX3_left cX3_left 3 (some .int)) ({ frames := 1, cells := 0, slots := 0, locals := 22 }) D B [.ref 20, .int p, .int s] (wd K S h) n (gdt (some (.int (m_left S p s))) (wd K ((sI S 0 0)) h) n) 0 0 := by
  have b12 := hS.c12.2
  have b13 := hS.c13.2
  have b14 := hS.c14.2
  have b16 := hS.c16.2
  have b29 := hS.c29.2
  have b30 := hS.c30.2
  have b31 := hS.c31.2
  have b48 := hS.c48.2
  have b49 := hS.c49.2
  have b50 := hS.c50.2
  have b51 := hS.c51.2
  have b77 := hS.c77.2
  have b78 := hS.c78.2
  have b79 := hS.c79.2
  have b82 := hS.c82.2
  refine Con.begin [some (.ref 20), some (.int p), some (.int s)] rfl rfl (Nat.le_of_ble_eq_true rfl) rfl rfl (fun X C R => ?_)
  refine g_aload_n C (pc := 0) dX3_left_0 rfl rfl ?_
  refine g_iconst C (pc := 1) (v := 0) dX3_left_1 (by decide) ?_
  refine m_puti C 0 (pc := 2) dX3_left_2 rfl q1193 rfl rfl rfl ?_
  refine g_aload_n C (pc := 5) dX3_left_5 rfl rfl ?_
  refine g_iload_n C (pc := 6) dX3_left_6 rfl ?_
  refine g_callVD C (pc := 7) [.int p] [] dX3_left_7 (c_X3_isParting l D B K (sI S 0 0) h n p ) (lw_V q1559 q1561 qs44 q87 q1562) (wd_20 _ _ _) rfl rfl ds_X3_isParting ⟨rfl, rfl⟩ ⟨Nat.le_of_ble_eq_true rfl, Nat.le_of_ble_eq_true rfl⟩ rfl rfl ⟨Nat.le_of_ble_eq_true rfl, Nat.le_of_ble_eq_true rfl⟩ (Nat.le_of_ble_eq_true rfl) rfl ?_
  refine g_if_eq C (pc := 10) (tgt := 47) dX3_left_10 (by decide) (fun c_10 => ?_) (fun c_10 => ?_)
  · skip
    have c_10 : ¬ (isParting S p) := p2i_0.mp c_10
    refine g_iconst C (pc := 47) (v := (-1)) dX3_left_47 (by decide) ?_
    exact g_iretD C R dX3_left_48 (Nat.le_refl _) (Nat.le_refl _) (by unfold m_left; first | (rw [if_pos (by  grind)] <;> first | rfl | (simp [mN_sI_ne, sI_2, p2i, b2i, *]; done) | grind) | (rw [if_neg (by  grind)] <;> first | rfl | (simp [mN_sI_ne, sI_2, p2i, b2i, *]; done) | grind)) (congrArg (fun z => wd K z h) (rfl)) rfl
  · skip
    have c_10 : (isParting S p) := p2i_n0.mp c_10
    refine g_aload_n C (pc := 13) dX3_left_13 rfl rfl ?_
    refine g_iload_n C (pc := 14) dX3_left_14 rfl ?_
    refine g_iconst C (pc := 15) (v := 1) dX3_left_15 (by decide) ?_
    refine g_callVD C (pc := 16) [.int s, .int 1] [] dX3_left_16 (c_X3_areHolders l D B K (sI S 0 0) h n s 1 ) (lw_V q1538 q1540 qs42 q87 q1541) (wd_20 _ _ _) rfl rfl ds_X3_areHolders ⟨rfl, rfl⟩ ⟨Nat.le_of_ble_eq_true rfl, Nat.le_of_ble_eq_true rfl⟩ rfl rfl ⟨Nat.le_of_ble_eq_true rfl, Nat.le_of_ble_eq_true rfl⟩ (Nat.le_of_ble_eq_true rfl) rfl ?_
    refine g_if_eq C (pc := 19) (tgt := 47) dX3_left_19 (by decide) (fun c_19 => ?_) (fun c_19 => ?_)
    · skip
      have c_19 : ¬ (areHolders S s 1) := p2i_0.mp c_19
      refine g_iconst C (pc := 47) (v := (-1)) dX3_left_47 (by decide) ?_
      exact g_iretD C R dX3_left_48 (Nat.le_refl _) (Nat.le_refl _) (by unfold m_left; first | (rw [if_pos (by  grind)] <;> first | rfl | (simp [mN_sI_ne, sI_2, p2i, b2i, *]; done) | grind) | (rw [if_neg (by  grind)] <;> first | rfl | (simp [mN_sI_ne, sI_2, p2i, b2i, *]; done) | grind)) (congrArg (fun z => wd K z h) (rfl)) rfl
    · skip
      have c_19 : (areHolders S s 1) := p2i_n0.mp c_19
      refine g_iconst C (pc := 22) (v := 0) dX3_left_22 (by decide) ?_
      refine g_aload_n C (pc := 23) dX3_left_23 rfl rfl ?_
      refine m_geta C 23 38 (pc := 24) dX3_left_24 (by decide) (fun _ => rfl) q1216 rfl ?_
      refine g_iload_n C (pc := 27) dX3_left_27 rfl ?_
      refine m_iald C (pc := 28) (v := (S.2.1 38) ((p).toNatClampNeg)) dX3_left_28 (by decide) rfl (isParting.inr hS c_10) rfl ?_
      refine g_iload_n C (pc := 29) dX3_left_29 rfl ?_
      refine g_aload_n C (pc := 30) dX3_left_30 rfl rfl ?_
      refine m_geta C 22 37 (pc := 31) dX3_left_31 (by decide) (fun _ => rfl) q1215 rfl ?_
      refine g_iload_n C (pc := 34) dX3_left_34 rfl ?_
      refine m_iald C (pc := 35) (v := (S.2.1 37) ((p).toNatClampNeg)) dX3_left_35 (by decide) rfl (isParting.inr hS c_10) rfl ?_
      refine g_iand C (pc := 36) dX3_left_36 ?_
      refine g_callSD C (pc := 37) [.int (s &&& ((S.2.1 37) ((p).toNatClampNeg)))] [.int ((S.2.1 38) ((p).toNatClampNeg)), .int 0] dX3_left_37 (c_J5_bitCount l D B (wd K (sI S 0 0) h) n (s &&& ((S.2.1 37) ((p).toNatClampNeg))) ) (lw_S q1542 q545 q98 q546) ds_J5_bitCount ⟨rfl, rfl⟩ ⟨Nat.le_of_ble_eq_true rfl, Nat.le_of_ble_eq_true rfl⟩ rfl rfl ⟨Nat.le_of_ble_eq_true rfl, Nat.le_of_ble_eq_true rfl⟩ (Nat.le_of_ble_eq_true rfl) rfl ?_
      refine g_isub C (pc := 40) dX3_left_40 ?_
      refine g_callSD C (pc := 41) [.int 0, .int (((S.2.1 38) ((p).toNatClampNeg)) - (bitc (s &&& ((S.2.1 37) ((p).toNatClampNeg)))))] [] dX3_left_41 (c_J2_max l D B (wd K (sI S 0 0) h) n 0 (((S.2.1 38) ((p).toNatClampNeg)) - (bitc (s &&& ((S.2.1 37) ((p).toNatClampNeg))))) ) (lw_S q1602 q650 q92 q651) ds_J2_max ⟨rfl, rfl⟩ ⟨Nat.le_of_ble_eq_true rfl, Nat.le_of_ble_eq_true rfl⟩ rfl rfl ⟨Nat.le_of_ble_eq_true rfl, Nat.le_of_ble_eq_true rfl⟩ (Nat.le_of_ble_eq_true rfl) rfl ?_
      refine g_goto C (pc := 44) (tgt := 48) dX3_left_44 (by decide) ?_
      exact g_iretD C R dX3_left_48 (Nat.le_refl _) (Nat.le_refl _) (by unfold m_left; first | (rw [if_pos (by  grind)] <;> first | rfl | (simp [mN_sI_ne, sI_2, p2i, b2i, *]; done) | grind) | (rw [if_neg (by  grind)] <;> first | rfl | (simp [mN_sI_ne, sI_2, p2i, b2i, *]; done) | grind)) (congrArg (fun z => wd K z h) (rfl)) rfl
theorem ds_X3_left : yX3_left.cls ≠ "java/lang/invoke/MethodHandle" ∧ yX3_left.cls ≠ "java/lang/invoke/VarHandle" ∧ (parseMethodDescriptor yX3_left.desc).map (fun d => d.parameters.length) = some 2 := by decide +kernel
set_option maxHeartbeats 4000000 in
set_option maxRecDepth 100000 in
theorem c_X3_parted (l : Launch) (D : gD) (B : Nat × Nat) (K : KS) (S : MS) (h : gHp) (n : Nat) (k : Int32) (s : Int32) (r : Int32) (y : Int64) (hS : MOK S) (hp : (mN S 30) < 40) (hk : vp_in k 40) {dd : Nat} (hd : r = nI dd) (h1 : 1 ≤ dd) (h12 : dd ≤ 12) : Con l yX3_parted (ws_ yX3_parted cX3_parted 10 (some .int)) ({ frames := 1, cells := 0, slots := 0, locals := 22 }) D B [.ref 20, .int k, .int s, .int r, .long y] (wd K S h) n (gdt (some (.int (nI (mN S 30)))) (wd K (partedS S k s dd y) h) n) 0 0 := by
  have b12 := hS.c12.2
  have b13 := hS.c13.2
  have b14 := hS.c14.2
  have b16 := hS.c16.2
  have b29 := hS.c29.2
  have b30 := hS.c30.2
  have b31 := hS.c31.2
  have b48 := hS.c48.2
  have b49 := hS.c49.2
  have b50 := hS.c50.2
  have b51 := hS.c51.2
  have b77 := hS.c77.2
  have b78 := hS.c78.2
  have b79 := hS.c79.2
  have b82 := hS.c82.2
  subst hd
  refine Con.begin [some (.ref 20), some (.int k), some (.int s), some (.int (nI dd)), some (.long y), none, none, none, none, none] rfl rfl (Nat.le_of_ble_eq_true rfl) rfl rfl (fun X C R => ?_)
  refine g_aload_n C (pc := 0) dX3_parted_0 rfl rfl ?_
  refine m_geti C 30 (pc := 1) (v := nI (mN S 30)) dX3_parted_1 rfl q1223 rfl hS.c30.1 ?_
  refine g_istore C (pc := 4) (L' := [some (.ref 20), some (.int k), some (.int s), some (.int (nI dd)), some (.long y), none, some (.int (nI (mN S 30))), none, none, none]) dX3_parted_4 (by decide) rfl rfl ?_
  refine g_aload_n C (pc := 6) dX3_parted_6 rfl rfl ?_
  refine m_geta C 21 36 (pc := 7) dX3_parted_7 (by decide) (fun _ => rfl) q1214 rfl ?_
  refine g_iload C (pc := 10) dX3_parted_10 rfl ?_
  refine g_iload_n C (pc := 12) dX3_parted_12 rfl ?_
  refine m_iast C (pc := 13) (j := (mN S 30)) dX3_parted_13 (by decide) rfl (vp_in_nI (by omega) (by decide)) (nI_clamp (by omega)) ?_
  refine g_aload_n C (pc := 14) dX3_parted_14 rfl rfl ?_
  refine m_geta C 22 37 (pc := 15) dX3_parted_15 (by decide) (fun _ => rfl) q1215 rfl ?_
  refine g_iload C (pc := 18) dX3_parted_18 rfl ?_
  refine g_iload_n C (pc := 20) dX3_parted_20 rfl ?_
  refine m_iast C (pc := 21) (j := (mN S 30)) dX3_parted_21 (by decide) rfl (vp_in_nI (by omega) (by decide)) (nI_clamp (by omega)) ?_
  refine g_aload_n C (pc := 22) dX3_parted_22 rfl rfl ?_
  refine m_geta C 23 38 (pc := 23) dX3_parted_23 (by decide) (fun _ => rfl) q1216 rfl ?_
  refine g_iload C (pc := 26) dX3_parted_26 rfl ?_
  refine g_iload_n C (pc := 28) dX3_parted_28 rfl ?_
  refine m_iast C (pc := 29) (j := (mN S 30)) dX3_parted_29 (by decide) rfl (vp_in_nI (by omega) (by decide)) (nI_clamp (by omega)) ?_
  refine g_aload_n C (pc := 30) dX3_parted_30 rfl rfl ?_
  refine m_geta C 24 39 (pc := 31) dX3_parted_31 (by decide) (fun _ => rfl) q1217 rfl ?_
  refine g_iload C (pc := 34) dX3_parted_34 rfl ?_
  refine g_aload_n C (pc := 36) dX3_parted_36 rfl rfl ?_
  refine m_geti C 1 (pc := 37) (v := S.1 1) dX3_parted_37 rfl q1194 rfl rfl ?_
  refine m_iast C (pc := 40) (j := (mN S 30)) dX3_parted_40 (by decide) rfl (vp_in_nI (by omega) (by decide)) (nI_clamp (by omega)) ?_
  refine g_aload_n C (pc := 41) dX3_parted_41 rfl rfl ?_
  refine m_geta C 25 40 (pc := 42) dX3_parted_42 (by decide) (fun _ => rfl) q1218 rfl ?_
  refine g_iload C (pc := 45) dX3_parted_45 rfl ?_
  refine g_sipush C (pc := 47) (v := 9999) dX3_parted_47 (by decide) ?_
  refine m_iast C (pc := 50) (j := (mN S 30)) dX3_parted_50 (by decide) rfl (vp_in_nI (by omega) (by decide)) (nI_clamp (by omega)) ?_
  refine g_aload_n C (pc := 51) dX3_parted_51 rfl rfl ?_
  refine m_geta C 26 41 (pc := 52) dX3_parted_52 (by decide) (fun _ => rfl) q1219 rfl ?_
  refine g_bipush C (pc := 55) (v := 12) dX3_parted_55 (by decide) ?_
  refine g_iload C (pc := 57) dX3_parted_57 rfl ?_
  refine g_imul C (pc := 59) dX3_parted_59 ?_
  refine g_aload_n C (pc := 60) dX3_parted_60 rfl rfl ?_
  refine m_geta C 3 22 (pc := 61) dX3_parted_61 (by decide) (fun _ => rfl) q1196 rfl ?_
  refine g_iload_n C (pc := 64) dX3_parted_64 rfl ?_
  refine m_iald C (pc := 65) (v := (S.2.1 22) ((k).toNatClampNeg)) dX3_parted_65 (by decide) rfl hk rfl ?_
  refine g_sipush C (pc := 66) (v := 1019) dX3_parted_66 (by decide) ?_
  refine g_irem C (pc := 69) dX3_parted_69 (by decide) ?_
  refine m_iast C (pc := 70) (j := ((12 * (nI (mN S 30)))).toNatClampNeg) dX3_parted_70 (by decide) rfl (by rw [show (12 : Int32) = nI 12 from rfl, pk_mul]; exact vp_in_nI (by omega) (by decide)) rfl ?_
  refine g_lload C (pc := 71) dX3_parted_71 rfl ?_
  refine g_lstore C (pc := 73) (L' := [some (.ref 20), some (.int k), some (.int s), some (.int (nI dd)), some (.long y), none, some (.int (nI (mN S 30))), some (.long y), none, none]) dX3_parted_73 (by decide) rfl rfl ?_
  refine g_iconst C (pc := 75) (v := 1) dX3_parted_75 (by decide) ?_
  refine g_istore C (pc := 76) (L' := [some (.ref 20), some (.int k), some (.int s), some (.int (nI dd)), some (.long y), none, some (.int (nI (mN S 30))), some (.long y), none, some (.int 1)]) dX3_parted_76 (by decide) rfl rfl ?_
  have loop_78 : ∀ (d78 : Nat) (i : Nat) (z : Int64) (S2 : MS), (i + 1 ≤ dd) → (z = lcgN y i) → (S2 = fillS (parted0 S k s (nI dd)) (mN S 30) y i) → dd - i < d78 → G X D B (wd K S2 h) n 0 0 [some (.ref 20), some (.int k), some (.int s), some (.int (nI dd)), some (.long y), none, some (.int (nI (mN S 30))), some (.long z), none, some (.int (nI (i + 1)))] 78 [] := by
    intro d78
    induction d78 with
    | zero =>
      intro i z S2 hi hz hS2 hm78
      exact absurd hm78 (Nat.not_lt_zero _)
    | succ d78 ih78 =>
      intro i z S2 hi hz hS2 hm78
      have hS2p : (S2.1 30) = nI (mN S 30) := by rw [hS2, fillS_1]; exact hS.c30.1
      refine g_iload C (pc := 78) dX3_parted_78 rfl ?_
      refine g_iload_n C (pc := 80) dX3_parted_80 rfl ?_
      refine g_icmp_ge C (pc := 81) (tgt := 118) dX3_parted_81 (by decide) (fun c_81 => ?_) (fun c_81 => ?_)
      · skip
        have c_81 : dd ≤ (i + 1) := Nat.not_lt.mp fun q => c_81 ((nI_ltI (a := (i + 1)) (b := dd) (by omega) (by omega)).mpr q)
        refine g_aload_n C (pc := 118) dX3_parted_118 rfl rfl ?_
        refine g_dup C (pc := 119) dX3_parted_119 rfl ?_
        refine m_geti C 30 (pc := 120) (v := nI (mN S 30)) dX3_parted_120 rfl q1223 rfl hS2p ?_
        refine g_iconst C (pc := 123) (v := 1) dX3_parted_123 (by decide) ?_
        refine g_iadd C (pc := 124) dX3_parted_124 ?_
        refine G.topc (nI_1 _) ?_
        refine m_puti C 30 (pc := 125) dX3_parted_125 rfl q1223 rfl rfl rfl ?_
        refine g_iload C (pc := 128) dX3_parted_128 rfl ?_
        exact g_iretD C R dX3_parted_130 (Nat.le_refl _) (Nat.le_refl _) (rfl) (congrArg (fun z => wd K z h) (by rw [hS2, show i = dd - 1 by omega]; rfl)) rfl
      · skip
        have c_81 : (i + 1) < dd := (nI_ltI (a := (i + 1)) (b := dd) (by omega) (by omega)).mp c_81
        refine g_lload C (pc := 84) dX3_parted_84 rfl ?_
        refine g_callSD C (pc := 86) [.long z] [] dX3_parted_86 (c_X3_next l D B (wd K S2 h) n z ) (lw_S q1547 q1548 q87 q1549) ds_X3_next ⟨rfl, rfl⟩ ⟨Nat.le_of_ble_eq_true rfl, Nat.le_of_ble_eq_true rfl⟩ rfl rfl ⟨Nat.le_of_ble_eq_true rfl, Nat.le_of_ble_eq_true rfl⟩ (Nat.le_of_ble_eq_true rfl) rfl ?_
        refine G.topl (fun x_89 e_x_89 => ?_)
        have e_x_89 : x_89 = lcg z := e_x_89
        refine g_lstore C (pc := 89) (L' := [some (.ref 20), some (.int k), some (.int s), some (.int (nI dd)), some (.long y), none, some (.int (nI (mN S 30))), some (.long x_89), none, some (.int (nI (i + 1)))]) dX3_parted_89 (by decide) rfl rfl ?_
        refine g_aload_n C (pc := 91) dX3_parted_91 rfl rfl ?_
        refine m_geta C 26 41 (pc := 92) dX3_parted_92 (by decide) (fun _ => rfl) q1219 rfl ?_
        refine g_bipush C (pc := 95) (v := 12) dX3_parted_95 (by decide) ?_
        refine g_iload C (pc := 97) dX3_parted_97 rfl ?_
        refine g_imul C (pc := 99) dX3_parted_99 ?_
        refine g_iload C (pc := 100) dX3_parted_100 rfl ?_
        refine g_iadd C (pc := 102) dX3_parted_102 ?_
        refine g_lload C (pc := 103) dX3_parted_103 rfl ?_
        refine g_sipush C (pc := 105) (v := 1019) dX3_parted_105 (by decide) ?_
        refine g_callSD C (pc := 108) [.long x_89, .int 1019] [.int ((12 * (nI (mN S 30))) + (nI (i + 1))), .ref 41] dX3_parted_108 (c_X3_drawn l D B (wd K S2 h) n x_89 1019 (by decide)) (lw_S q1552 q1553 q87 q1554) ds_X3_drawn ⟨rfl, rfl⟩ ⟨Nat.le_of_ble_eq_true rfl, Nat.le_of_ble_eq_true rfl⟩ rfl rfl ⟨Nat.le_of_ble_eq_true rfl, Nat.le_of_ble_eq_true rfl⟩ (Nat.le_of_ble_eq_true rfl) rfl ?_
        refine m_iast C (pc := 111) (j := (((12 * (nI (mN S 30))) + (nI (i + 1)))).toNatClampNeg) dX3_parted_111 (by decide) rfl (by rw [show (12 : Int32) = nI 12 from rfl, pk_mul, nI_add]; exact vp_in_nI (by omega) (by decide)) rfl ?_
        refine g_iinc C (pc := 112) (v := nI ((i + 1) + 1)) (L' := [some (.ref 20), some (.int k), some (.int s), some (.int (nI dd)), some (.long y), none, some (.int (nI (mN S 30))), some (.long x_89), none, some (.int (nI ((i + 1) + 1)))]) dX3_parted_112 rfl (nI_inc _) (by decide) rfl rfl ?_
        refine g_goto C (pc := 115) (tgt := 78) dX3_parted_115 (by decide) ?_
        refine G.mask [true, true, true, true, true, false, true, true, false, true] rfl ?_
        exact ih78 (i + 1) x_89 (sE S2 41 ((((12 * (nI (mN S 30))) + (nI (i + 1)))).toNatClampNeg) (drawn x_89 1019)) (by omega) (by rw [e_x_89, hz]; rfl) (by rw [hS2, e_x_89, hz]; rfl) (by omega)
  refine G.mask [true, true, true, true, true, false, true, true, false, true] rfl ?_
  exact loop_78 _ 0 y (sE (sE (sE (sE (sE (sE S 36 (mN S 30) k) 37 (mN S 30) s) 38 (mN S 30) (nI dd)) 39 (mN S 30) (S.1 1)) 40 (mN S 30) 9999) 41 (((12 * (nI (mN S 30)))).toNatClampNeg) (jrem ((S.2.1 22) ((k).toNatClampNeg)) 1019)) (by omega) (rfl) (rfl) (Nat.lt_succ_self _)
theorem ds_X3_parted : yX3_parted.cls ≠ "java/lang/invoke/MethodHandle" ∧ yX3_parted.cls ≠ "java/lang/invoke/VarHandle" ∧ (parseMethodDescriptor yX3_parted.desc).map (fun d => d.parameters.length) = some 4 := by decide +kernel
set_option maxHeartbeats 4000000 in
set_option maxRecDepth 100000 in
theorem c_X3_part (l : Launch) (D : gD) (B : Nat × Nat) (K : KS) (S : MS) (h : gHp) (n : Nat) (k : Int32) (s : Int32) (r : Int32) (y : Int64) (hS : MOK S) : Con l yX3_part (ws_ yX3_part cX3_part 6 (some .int)) ({ frames := 2, cells := 0, slots := 0, locals := 51 }) D B [.ref 20, .int k, .int s, .int r, .long y] (wd K S h) n (gdt (some (.int ((m_part S k s r y).2))) (wd K ((m_part S k s r y).1) h) n) 0 0 := by
  have b12 := hS.c12.2
  have b13 := hS.c13.2
  have b14 := hS.c14.2
  have b16 := hS.c16.2
  have b29 := hS.c29.2
  have b30 := hS.c30.2
  have b31 := hS.c31.2
  have b48 := hS.c48.2
  have b49 := hS.c49.2
  have b50 := hS.c50.2
  have b51 := hS.c51.2
  have b77 := hS.c77.2
  have b78 := hS.c78.2
  have b79 := hS.c79.2
  have b82 := hS.c82.2
  refine Con.begin [some (.ref 20), some (.int k), some (.int s), some (.int r), some (.long y), none] rfl rfl (Nat.le_of_ble_eq_true rfl) rfl rfl (fun X C R => ?_)
  refine g_aload_n C (pc := 0) dX3_part_0 rfl rfl ?_
  refine g_iconst C (pc := 1) (v := 0) dX3_part_1 (by decide) ?_
  refine m_puti C 0 (pc := 2) dX3_part_2 rfl q1193 rfl rfl rfl ?_
  refine g_aload_n C (pc := 5) dX3_part_5 rfl rfl ?_
  refine m_geti C 30 (pc := 6) (v := nI (mN S 30)) dX3_part_6 rfl q1223 rfl hS.c30.1 ?_
  refine g_bipush C (pc := 9) (v := 40) dX3_part_9 (by decide) ?_
  refine g_icmp_ge C (pc := 11) (tgt := 55) dX3_part_11 (by decide) (fun c_11 => ?_) (fun c_11 => ?_)
  · skip
    have c_11 : 40 ≤ (mN S 30) := Nat.not_lt.mp fun q => c_11 ((nI_ltI (a := (mN S 30)) (b := 40) (by omega) (by omega)).mpr q)
    refine g_iconst C (pc := 55) (v := (-1)) dX3_part_55 (by decide) ?_
    exact g_iretD C R dX3_part_56 (Nat.le_refl _) (Nat.le_refl _) (by first | (unfold m_part; rw [if_pos (by grind)]; simp only [hde]; rw [nI_clamp (by omega)]; first | rfl | (rw [← hde]; exact e_S_49) | exact e_S_49) | exact (by unfold m_part; first | (rw [if_pos (by  grind)] <;> first | rfl | (simp [mN_sI_ne, sI_2, p2i, b2i, *]; done) | grind) | (rw [if_neg (by  grind)] <;> first | rfl | (simp [mN_sI_ne, sI_2, p2i, b2i, *]; done) | grind))) (congrArg (fun z => wd K z h) (by first | (unfold m_part; rw [if_pos (by grind)]; simp only [hde]; rw [nI_clamp (by omega)]; first | rfl | (rw [← hde]; exact e_S_49) | exact e_S_49) | exact (by unfold m_part; first | (rw [if_pos (by  grind)] <;> first | rfl | (simp [mN_sI_ne, sI_2, p2i, b2i, *]; done) | grind) | (rw [if_neg (by  grind)] <;> first | rfl | (simp [mN_sI_ne, sI_2, p2i, b2i, *]; done) | grind)))) rfl
  · skip
    have c_11 : (mN S 30) < 40 := (nI_ltI (a := (mN S 30)) (b := 40) (by omega) (by omega)).mp c_11
    refine g_aload_n C (pc := 14) dX3_part_14 rfl rfl ?_
    refine g_iload_n C (pc := 15) dX3_part_15 rfl ?_
    refine g_callVD C (pc := 16) [.int k] [] dX3_part_16 (c_X3_isKey l D B K (sI S 0 0) h n k ) (lw_V q1492 q1494 qs38 q87 q1495) (wd_20 _ _ _) rfl rfl ds_X3_isKey ⟨rfl, rfl⟩ ⟨Nat.le_of_ble_eq_true rfl, Nat.le_of_ble_eq_true rfl⟩ rfl rfl ⟨Nat.le_of_ble_eq_true rfl, Nat.le_of_ble_eq_true rfl⟩ (Nat.le_of_ble_eq_true rfl) rfl ?_
    refine g_if_eq C (pc := 19) (tgt := 55) dX3_part_19 (by decide) (fun c_19 => ?_) (fun c_19 => ?_)
    · skip
      have c_19 : ¬ (isKey S k) := p2i_0.mp c_19
      refine g_iconst C (pc := 55) (v := (-1)) dX3_part_55 (by decide) ?_
      exact g_iretD C R dX3_part_56 (Nat.le_refl _) (Nat.le_refl _) (by first | (unfold m_part; rw [if_pos (by grind)]; simp only [hde]; rw [nI_clamp (by omega)]; first | rfl | (rw [← hde]; exact e_S_49) | exact e_S_49) | exact (by unfold m_part; first | (rw [if_pos (by  grind)] <;> first | rfl | (simp [mN_sI_ne, sI_2, p2i, b2i, *]; done) | grind) | (rw [if_neg (by  grind)] <;> first | rfl | (simp [mN_sI_ne, sI_2, p2i, b2i, *]; done) | grind))) (congrArg (fun z => wd K z h) (by first | (unfold m_part; rw [if_pos (by grind)]; simp only [hde]; rw [nI_clamp (by omega)]; first | rfl | (rw [← hde]; exact e_S_49) | exact e_S_49) | exact (by unfold m_part; first | (rw [if_pos (by  grind)] <;> first | rfl | (simp [mN_sI_ne, sI_2, p2i, b2i, *]; done) | grind) | (rw [if_neg (by  grind)] <;> first | rfl | (simp [mN_sI_ne, sI_2, p2i, b2i, *]; done) | grind)))) rfl
    · skip
      have c_19 : (isKey S k) := p2i_n0.mp c_19
      refine g_aload_n C (pc := 22) dX3_part_22 rfl rfl ?_
      refine g_iload_n C (pc := 23) dX3_part_23 rfl ?_
      refine g_iconst C (pc := 24) (v := 1) dX3_part_24 (by decide) ?_
      refine g_callVD C (pc := 25) [.int s, .int 1] [] dX3_part_25 (c_X3_areHolders l D B K (sI S 0 0) h n s 1 ) (lw_V q1538 q1540 qs42 q87 q1541) (wd_20 _ _ _) rfl rfl ds_X3_areHolders ⟨rfl, rfl⟩ ⟨Nat.le_of_ble_eq_true rfl, Nat.le_of_ble_eq_true rfl⟩ rfl rfl ⟨Nat.le_of_ble_eq_true rfl, Nat.le_of_ble_eq_true rfl⟩ (Nat.le_of_ble_eq_true rfl) rfl ?_
      refine g_if_eq C (pc := 28) (tgt := 55) dX3_part_28 (by decide) (fun c_28 => ?_) (fun c_28 => ?_)
      · skip
        have c_28 : ¬ (areHolders S s 1) := p2i_0.mp c_28
        refine g_iconst C (pc := 55) (v := (-1)) dX3_part_55 (by decide) ?_
        exact g_iretD C R dX3_part_56 (Nat.le_refl _) (Nat.le_refl _) (by first | (unfold m_part; rw [if_pos (by grind)]; simp only [hde]; rw [nI_clamp (by omega)]; first | rfl | (rw [← hde]; exact e_S_49) | exact e_S_49) | exact (by unfold m_part; first | (rw [if_pos (by  grind)] <;> first | rfl | (simp [mN_sI_ne, sI_2, p2i, b2i, *]; done) | grind) | (rw [if_neg (by  grind)] <;> first | rfl | (simp [mN_sI_ne, sI_2, p2i, b2i, *]; done) | grind))) (congrArg (fun z => wd K z h) (by first | (unfold m_part; rw [if_pos (by grind)]; simp only [hde]; rw [nI_clamp (by omega)]; first | rfl | (rw [← hde]; exact e_S_49) | exact e_S_49) | exact (by unfold m_part; first | (rw [if_pos (by  grind)] <;> first | rfl | (simp [mN_sI_ne, sI_2, p2i, b2i, *]; done) | grind) | (rw [if_neg (by  grind)] <;> first | rfl | (simp [mN_sI_ne, sI_2, p2i, b2i, *]; done) | grind)))) rfl
      · skip
        have c_28 : (areHolders S s 1) := p2i_n0.mp c_28
        refine g_iload_n C (pc := 31) dX3_part_31 rfl ?_
        refine g_iconst C (pc := 32) (v := 1) dX3_part_32 (by decide) ?_
        refine g_iload_n C (pc := 33) dX3_part_33 rfl ?_
        refine g_callSD C (pc := 34) [.int s] [.int 1, .int r] dX3_part_34 (c_J5_bitCount l D B (wd K (sI S 0 0) h) n s ) (lw_S q1542 q545 q98 q546) ds_J5_bitCount ⟨rfl, rfl⟩ ⟨Nat.le_of_ble_eq_true rfl, Nat.le_of_ble_eq_true rfl⟩ rfl rfl ⟨Nat.le_of_ble_eq_true rfl, Nat.le_of_ble_eq_true rfl⟩ (Nat.le_of_ble_eq_true rfl) rfl ?_
        refine g_callSD C (pc := 37) [.int r, .int 1, .int (bitc s)] [] dX3_part_37 (c_X3_isIn l D B (wd K (sI S 0 0) h) n r 1 (bitc s) ) (lw_S q1458 q1459 q87 q1460) ds_X3_isIn ⟨rfl, rfl⟩ ⟨Nat.le_of_ble_eq_true rfl, Nat.le_of_ble_eq_true rfl⟩ rfl rfl ⟨Nat.le_of_ble_eq_true rfl, Nat.le_of_ble_eq_true rfl⟩ (Nat.le_of_ble_eq_true rfl) rfl ?_
        refine g_if_eq C (pc := 40) (tgt := 55) dX3_part_40 (by decide) (fun c_40 => ?_) (fun c_40 => ?_)
        · skip
          have c_40 : ¬ (isIn r 1 (bitc s)) := p2i_0.mp c_40
          refine g_iconst C (pc := 55) (v := (-1)) dX3_part_55 (by decide) ?_
          exact g_iretD C R dX3_part_56 (Nat.le_refl _) (Nat.le_refl _) (by first | (unfold m_part; rw [if_pos (by grind)]; simp only [hde]; rw [nI_clamp (by omega)]; first | rfl | (rw [← hde]; exact e_S_49) | exact e_S_49) | exact (by unfold m_part; first | (rw [if_pos (by  grind)] <;> first | rfl | (simp [mN_sI_ne, sI_2, p2i, b2i, *]; done) | grind) | (rw [if_neg (by  grind)] <;> first | rfl | (simp [mN_sI_ne, sI_2, p2i, b2i, *]; done) | grind))) (congrArg (fun z => wd K z h) (by first | (unfold m_part; rw [if_pos (by grind)]; simp only [hde]; rw [nI_clamp (by omega)]; first | rfl | (rw [← hde]; exact e_S_49) | exact e_S_49) | exact (by unfold m_part; first | (rw [if_pos (by  grind)] <;> first | rfl | (simp [mN_sI_ne, sI_2, p2i, b2i, *]; done) | grind) | (rw [if_neg (by  grind)] <;> first | rfl | (simp [mN_sI_ne, sI_2, p2i, b2i, *]; done) | grind)))) rfl
        · skip
          have c_40 : (isIn r 1 (bitc s)) := p2i_n0.mp c_40
          obtain ⟨dd, hd1, hd2, hde⟩ := part_need hS c_28 c_40
          refine g_aload_n C (pc := 43) dX3_part_43 rfl rfl ?_
          refine g_iload_n C (pc := 44) dX3_part_44 rfl ?_
          refine g_iload_n C (pc := 45) dX3_part_45 rfl ?_
          refine g_iload_n C (pc := 46) dX3_part_46 rfl ?_
          refine g_lload C (pc := 47) dX3_part_47 rfl ?_
          refine g_callVD C (pc := 49) [.int k, .int s, .int r, .long y] [] dX3_part_49 (c_X3_parted l D B K (sI S 0 0) h n k s r y (hS.setI 0 rfl) (by show (mN S 30) < 40; omega) (isKey.inr hS c_19) hde hd1 hd2) (lw_V q1543 q1545 qs43 q87 q1546) (wd_20 _ _ _) rfl rfl ds_X3_parted ⟨rfl, rfl⟩ ⟨Nat.le_of_ble_eq_true rfl, Nat.le_of_ble_eq_true rfl⟩ rfl rfl ⟨Nat.le_of_ble_eq_true rfl, Nat.le_of_ble_eq_true rfl⟩ (Nat.le_of_ble_eq_true rfl) rfl ?_
          refine G.nmS (fun S_49 e_S_49 => ?_)
          refine g_goto C (pc := 52) (tgt := 56) dX3_part_52 (by decide) ?_
          exact g_iretD C R dX3_part_56 (Nat.le_refl _) (Nat.le_refl _) (by first | (unfold m_part; rw [if_pos (by grind)]; simp only [hde]; rw [nI_clamp (by omega)]; first | rfl | (rw [← hde]; exact e_S_49) | exact e_S_49) | exact (by unfold m_part; first | (rw [if_pos (by  grind)] <;> first | rfl | (simp [mN_sI_ne, sI_2, p2i, b2i, *]; done) | grind) | (rw [if_neg (by  grind)] <;> first | rfl | (simp [mN_sI_ne, sI_2, p2i, b2i, *]; done) | grind))) (congrArg (fun z => wd K z h) (by first | (unfold m_part; rw [if_pos (by grind)]; simp only [hde]; rw [nI_clamp (by omega)]; first | rfl | (rw [← hde]; exact e_S_49) | exact e_S_49) | exact (by unfold m_part; first | (rw [if_pos (by  grind)] <;> first | rfl | (simp [mN_sI_ne, sI_2, p2i, b2i, *]; done) | grind) | (rw [if_neg (by  grind)] <;> first | rfl | (simp [mN_sI_ne, sI_2, p2i, b2i, *]; done) | grind)))) rfl
theorem ds_X3_part : yX3_part.cls ≠ "java/lang/invoke/MethodHandle" ∧ yX3_part.cls ≠ "java/lang/invoke/VarHandle" ∧ (parseMethodDescriptor yX3_part.desc).map (fun d => d.parameters.length) = some 4 := by decide +kernel
set_option maxHeartbeats 4000000 in
set_option maxRecDepth 100000 in
theorem c_X3_again (l : Launch) (D : gD) (B : Nat × Nat) (K : KS) (S : MS) (h : gHp) (n : Nat) (p : Int32) (y : Int64) (hS : MOK S) : Con l yX3_again (ws_ yX3_again cX3_again 4 (some .int)) ({ frames := 2, cells := 0, slots := 0, locals := 51 }) D B [.ref 20, .int p, .long y] (wd K S h) n (gdt (some (.int ((m_again S p y).2))) (wd K ((m_again S p y).1) h) n) 0 0 := by
  have b12 := hS.c12.2
  have b13 := hS.c13.2
  have b14 := hS.c14.2
  have b16 := hS.c16.2
  have b29 := hS.c29.2
  have b30 := hS.c30.2
  have b31 := hS.c31.2
  have b48 := hS.c48.2
  have b49 := hS.c49.2
  have b50 := hS.c50.2
  have b51 := hS.c51.2
  have b77 := hS.c77.2
  have b78 := hS.c78.2
  have b79 := hS.c79.2
  have b82 := hS.c82.2
  refine Con.begin [some (.ref 20), some (.int p), some (.long y), none] rfl rfl (Nat.le_of_ble_eq_true rfl) rfl rfl (fun X C R => ?_)
  refine g_aload_n C (pc := 0) dX3_again_0 rfl rfl ?_
  refine g_iconst C (pc := 1) (v := 0) dX3_again_1 (by decide) ?_
  refine m_puti C 0 (pc := 2) dX3_again_2 rfl q1193 rfl rfl rfl ?_
  refine g_aload_n C (pc := 5) dX3_again_5 rfl rfl ?_
  refine m_geti C 30 (pc := 6) (v := nI (mN S 30)) dX3_again_6 rfl q1223 rfl hS.c30.1 ?_
  refine g_bipush C (pc := 9) (v := 40) dX3_again_9 (by decide) ?_
  refine g_icmp_eq C (pc := 11) (tgt := 34) dX3_again_11 (by decide) (fun c_11 => ?_) (fun c_11 => ?_)
  · skip
    have c_11 : (mN S 30) = 40 := (nI_eq (a := (mN S 30)) (b := 40) (by omega) (by omega)).mp c_11
    refine g_iconst C (pc := 34) (v := (-1)) dX3_again_34 (by decide) ?_
    exact g_iretD C R dX3_again_35 (Nat.le_refl _) (Nat.le_refl _) (by unfold m_again; first | (rw [if_pos (by  grind)] <;> first | rfl | (simp [mN_sI_ne, sI_2, p2i, b2i, *]; done) | grind) | (rw [if_neg (by  grind)] <;> first | rfl | (simp [mN_sI_ne, sI_2, p2i, b2i, *]; done) | grind)) (congrArg (fun z => wd K z h) (by unfold m_again; first | (rw [if_pos (by  grind)] <;> first | rfl | (simp [mN_sI_ne, sI_2, p2i, b2i, *]; done) | grind) | (rw [if_neg (by  grind)] <;> first | rfl | (simp [mN_sI_ne, sI_2, p2i, b2i, *]; done) | grind))) rfl
  · skip
    have c_11 : ¬ (mN S 30) = 40 := fun q => c_11 ((nI_eq (a := (mN S 30)) (b := 40) (by omega) (by omega)).mpr q)
    refine g_aload_n C (pc := 14) dX3_again_14 rfl rfl ?_
    refine g_iload_n C (pc := 15) dX3_again_15 rfl ?_
    refine g_callVD C (pc := 16) [.int p] [] dX3_again_16 (c_X3_isParting l D B K (sI S 0 0) h n p ) (lw_V q1559 q1561 qs44 q87 q1562) (wd_20 _ _ _) rfl rfl ds_X3_isParting ⟨rfl, rfl⟩ ⟨Nat.le_of_ble_eq_true rfl, Nat.le_of_ble_eq_true rfl⟩ rfl rfl ⟨Nat.le_of_ble_eq_true rfl, Nat.le_of_ble_eq_true rfl⟩ (Nat.le_of_ble_eq_true rfl) rfl ?_
    refine g_if_eq C (pc := 19) (tgt := 34) dX3_again_19 (by decide) (fun c_19 => ?_) (fun c_19 => ?_)
    · skip
      have c_19 : ¬ (isParting S p) := p2i_0.mp c_19
      refine g_iconst C (pc := 34) (v := (-1)) dX3_again_34 (by decide) ?_
      exact g_iretD C R dX3_again_35 (Nat.le_refl _) (Nat.le_refl _) (by unfold m_again; first | (rw [if_pos (by  grind)] <;> first | rfl | (simp [mN_sI_ne, sI_2, p2i, b2i, *]; done) | grind) | (rw [if_neg (by  grind)] <;> first | rfl | (simp [mN_sI_ne, sI_2, p2i, b2i, *]; done) | grind)) (congrArg (fun z => wd K z h) (by unfold m_again; first | (rw [if_pos (by  grind)] <;> first | rfl | (simp [mN_sI_ne, sI_2, p2i, b2i, *]; done) | grind) | (rw [if_neg (by  grind)] <;> first | rfl | (simp [mN_sI_ne, sI_2, p2i, b2i, *]; done) | grind))) rfl
    · skip
      have c_19 : (isParting S p) := p2i_n0.mp c_19
      refine g_aload_n C (pc := 22) dX3_again_22 rfl rfl ?_
      refine m_geta C 25 40 (pc := 23) dX3_again_23 (by decide) (fun _ => rfl) q1218 rfl ?_
      refine g_iload_n C (pc := 26) dX3_again_26 rfl ?_
      refine m_iald C (pc := 27) (v := (S.2.1 40) ((p).toNatClampNeg)) dX3_again_27 (by decide) rfl (isParting.inr hS c_19) rfl ?_
      refine g_sipush C (pc := 28) (v := 9999) dX3_again_28 (by decide) ?_
      refine g_icmp_eq C (pc := 31) (tgt := 36) dX3_again_31 (by decide) (fun c_31 => ?_) (fun c_31 => ?_)
      · skip
        have c_31 : (((S.2.1 40) ((p).toNatClampNeg)) : Int32) = 9999 := c_31
        refine g_aload_n C (pc := 36) dX3_again_36 rfl rfl ?_
        refine m_geta C 25 40 (pc := 37) dX3_again_37 (by decide) (fun _ => rfl) q1218 rfl ?_
        refine g_iload_n C (pc := 40) dX3_again_40 rfl ?_
        refine g_aload_n C (pc := 41) dX3_again_41 rfl rfl ?_
        refine m_geti C 1 (pc := 42) (v := S.1 1) dX3_again_42 rfl q1194 rfl rfl ?_
        refine m_iast C (pc := 45) (j := (p).toNatClampNeg) dX3_again_45 (by decide) rfl (isParting.inr hS c_19) rfl ?_
        refine g_aload_n C (pc := 46) dX3_again_46 rfl rfl ?_
        refine g_aload_n C (pc := 47) dX3_again_47 rfl rfl ?_
        refine m_geta C 21 36 (pc := 48) dX3_again_48 (by decide) (fun _ => rfl) q1214 rfl ?_
        refine g_iload_n C (pc := 51) dX3_again_51 rfl ?_
        refine m_iald C (pc := 52) (v := (S.2.1 36) ((p).toNatClampNeg)) dX3_again_52 (by decide) rfl (isParting.inr hS c_19) rfl ?_
        refine g_aload_n C (pc := 53) dX3_again_53 rfl rfl ?_
        refine m_geta C 22 37 (pc := 54) dX3_again_54 (by decide) (fun _ => rfl) q1215 rfl ?_
        refine g_iload_n C (pc := 57) dX3_again_57 rfl ?_
        refine m_iald C (pc := 58) (v := (S.2.1 37) ((p).toNatClampNeg)) dX3_again_58 (by decide) rfl (isParting.inr hS c_19) rfl ?_
        refine g_aload_n C (pc := 59) dX3_again_59 rfl rfl ?_
        refine m_geta C 23 38 (pc := 60) dX3_again_60 (by decide) (fun _ => rfl) q1216 rfl ?_
        refine g_iload_n C (pc := 63) dX3_again_63 rfl ?_
        refine m_iald C (pc := 64) (v := (S.2.1 38) ((p).toNatClampNeg)) dX3_again_64 (by decide) rfl (isParting.inr hS c_19) rfl ?_
        refine g_lload_n C (pc := 65) dX3_again_65 rfl ?_
        refine g_callVD C (pc := 66) [.int ((S.2.1 36) ((p).toNatClampNeg)), .int ((S.2.1 37) ((p).toNatClampNeg)), .int ((S.2.1 38) ((p).toNatClampNeg)), .long y] [] dX3_again_66 (c_X3_parted l D B K (sE (sI S 0 0) 40 ((p).toNatClampNeg) (S.1 1)) h n ((S.2.1 36) ((p).toNatClampNeg)) ((S.2.1 37) ((p).toNatClampNeg)) ((S.2.1 38) ((p).toNatClampNeg)) y ((hS.setI 0 rfl).setE _ _ rfl) (by show (mN S 30) < 40; omega) (need_ok hS c_19).2.2.2 (need_ok hS c_19).1 (need_ok hS c_19).2.2.1 (need_ok hS c_19).2.1) (lw_V q1543 q1545 qs43 q87 q1546) (wd_20 _ _ _) rfl rfl ds_X3_parted ⟨rfl, rfl⟩ ⟨Nat.le_of_ble_eq_true rfl, Nat.le_of_ble_eq_true rfl⟩ rfl rfl ⟨Nat.le_of_ble_eq_true rfl, Nat.le_of_ble_eq_true rfl⟩ (Nat.le_of_ble_eq_true rfl) rfl ?_
        refine G.nmS (fun S_66 e_S_66 => ?_)
        exact g_iretD C R dX3_again_69 (Nat.le_refl _) (Nat.le_refl _) (by unfold m_again; first | (rw [if_pos (by  grind)] <;> first | rfl | (simp [mN_sI_ne, sI_2, p2i, b2i, *]; done) | grind) | (rw [if_neg (by  grind)] <;> first | rfl | (simp [mN_sI_ne, sI_2, p2i, b2i, *]; done) | grind)) (congrArg (fun z => wd K z h) (by unfold m_again; first | (rw [if_pos (by  grind)] <;> first | rfl | (simp [mN_sI_ne, sI_2, p2i, b2i, *]; done) | grind) | (rw [if_neg (by  grind)] <;> first | rfl | (simp [mN_sI_ne, sI_2, p2i, b2i, *]; done) | grind))) rfl
      · skip
        have c_31 : ¬ (((S.2.1 40) ((p).toNatClampNeg)) : Int32) = 9999 := c_31
        refine g_iconst C (pc := 34) (v := (-1)) dX3_again_34 (by decide) ?_
        exact g_iretD C R dX3_again_35 (Nat.le_refl _) (Nat.le_refl _) (by unfold m_again; first | (rw [if_pos (by  grind)] <;> first | rfl | (simp [mN_sI_ne, sI_2, p2i, b2i, *]; done) | grind) | (rw [if_neg (by  grind)] <;> first | rfl | (simp [mN_sI_ne, sI_2, p2i, b2i, *]; done) | grind)) (congrArg (fun z => wd K z h) (by unfold m_again; first | (rw [if_pos (by  grind)] <;> first | rfl | (simp [mN_sI_ne, sI_2, p2i, b2i, *]; done) | grind) | (rw [if_neg (by  grind)] <;> first | rfl | (simp [mN_sI_ne, sI_2, p2i, b2i, *]; done) | grind))) rfl
theorem ds_X3_again : yX3_again.cls ≠ "java/lang/invoke/MethodHandle" ∧ yX3_again.cls ≠ "java/lang/invoke/VarHandle" ∧ (parseMethodDescriptor yX3_again.desc).map (fun d => d.parameters.length) = some 2 := by decide +kernel
