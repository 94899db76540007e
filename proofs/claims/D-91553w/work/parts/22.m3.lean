/-! MODEL, part 3: what is got -/
def bt64 (x : Int64) (i : Nat) : Bool := x.toBitVec.getLsbD i
theorem bt_or (x y : Int64) (i : Nat) : bt64 (x ||| y) i = (bt64 x i || bt64 y i) := by simp [bt64]
def zc (x : Int64) : Nat → Nat
  | 0 => 0
  | i + 1 => zc x i + (if bt64 x i = true then 0 else 1)
theorem zc_le (x : Int64) (i : Nat) : zc x i ≤ i := by
  induction i with
  | zero => exact Nat.le_refl 0
  | succ i ih => simp only [zc]; split <;> omega
theorem zc_mono {x y : Int64} (h : ∀ i, i < 64 → bt64 x i = true → bt64 y i = true) : ∀ i, i ≤ 64 → zc y i ≤ zc x i := by
  intro i
  induction i with
  | zero => exact fun _ => Nat.le_refl _
  | succ i ih =>
    intro hi
    have := ih (by omega)
    have h2 := h i (by omega)
    simp only [zc]
    split <;> split <;> simp_all <;> omega
theorem zc_lt {x y : Int64} (h : ∀ i, i < 64 → bt64 x i = true → bt64 y i = true) {j : Nat} (hj : j < 64) (h1 : ¬ bt64 x j = true) (h2 : bt64 y j = true) : ∀ i, i ≤ 64 → j < i → zc y i < zc x i := by
  intro i
  induction i with
  | zero => intro _ h; omega
  | succ i ih =>
    intro hi hji
    simp only [zc]
    by_cases e : j = i
    · subst e
      rw [if_pos h2, if_neg h1]
      have := zc_mono h j (by omega)
      omega
    · have := ih (by omega) (by omega)
      have h3 := h i (by omega)
      split <;> split <;> simp_all <;> omega
theorem bt_ext {x y : Int64} (h : ∀ i, i < 64 → bt64 x i = bt64 y i) : x = y := by
  apply Int64.toBitVec_inj.mp
  apply BitVec.eq_of_getLsbD_eq
  intro i hi
  exact h i hi
theorem zc_ne {x y : Int64} (h : ∀ i, i < 64 → bt64 x i = true → bt64 y i = true) (hn : ¬ y = x) : zc y 64 < zc x 64 := by
  have : ∃ j, j < 64 ∧ ¬ bt64 x j = true ∧ bt64 y j = true := by
    refine Classical.byContradiction fun hc => hn (bt_ext fun i hi => ?_)
    cases h1 : bt64 x i with
    | true => exact h i hi h1
    | false =>
      cases h2 : bt64 y i with
      | false => rfl
      | true => exact absurd ⟨i, hi, by simp [h1], h2⟩ hc
  obtain ⟨j, hj, h1, h2⟩ := this
  exact zc_lt h hj h1 h2 64 (Nat.le_refl _) hj
def fixR (f : Int64 → Int64) : Nat → Int64 → Int64
  | 0, b => b
  | n + 1, b => if f b = b then b else fixR f n (f b)
theorem fixR_stable {f : Int64 → Int64} (hf : ∀ b i, i < 64 → bt64 b i = true → bt64 (f b) i = true) : ∀ (n m : Nat) (b : Int64), zc b 64 < n → zc b 64 < m → fixR f n b = fixR f m b
  | 0, m, b, h, _ => by omega
  | n + 1, 0, b, _, h => by omega
  | n + 1, m + 1, b, h1, h2 => by
    simp only [fixR]
    by_cases e : f b = b
    · rw [if_pos e, if_pos e]
    · rw [if_neg e, if_neg e]
      have := zc_ne (hf b) e
      exact fixR_stable hf n m (f b) (by omega) (by omega)
abbrev isForce (A : Nat → Nat → Int32) (p : Nat) (q : Int32) : Prop := ¬ q < A 39 p ∧ q < A 40 p
abbrev isWrapped (A : Nat → Nat → Int32) (p : Nat) (q : Int32) : Prop := ¬ q < A 34 p ∧ q < A 35 p
def cl1 (hb : Nat → Int64) (set : Int32) : Nat → Int64
  | 0 => 0
  | k + 1 => if (set >>> (nI k &&& 31)) &&& 1 = 1 then cl1 hb set k ||| hb k else cl1 hb set k
def cl2 (A : Nat → Nat → Int32) (set q other need : Int32) (b : Int64) : Nat → Int64
  | 0 => b
  | p + 1 => if isForce A p q ∧ ¬ bitc (set &&& A 37 p) < (if nI p = other then need else A 38 p) then cl2 A set q other need b p ||| jlshl 1 (A 36 p) else cl2 A set q other need b p
def rr1 (A : Nat → Nat → Int32) (q : Int32) (b : Int64) : Nat → Int64
  | 0 => b
  | k + 1 => if A 21 k = 2 ∧ ¬ q < A 24 k ∧ jlshr (rr1 A q b k) (A 23 k) &&& 1 = 1 then rr1 A q b k ||| jlshl 1 (nI k) else rr1 A q b k
def rr2 (A : Nat → Nat → Int32) (q : Int32) (b : Int64) : Nat → Int64
  | 0 => b
  | k + 1 => if isWrapped A k q ∧ jlshr (rr2 A q b k) (A 33 k) &&& 1 = 1 then rr2 A q b k ||| jlshl 1 (A 32 k) else rr2 A q b k
def rnd (A : Nat → Nat → Int32) (q : Int32) (nk nw : Nat) (b : Int64) : Int64 := rr2 A q (rr1 A q b nk) nw
theorem rr1_infl (A : Nat → Nat → Int32) (q : Int32) (b : Int64) (i : Nat) (h : bt64 b i = true) : ∀ k, bt64 (rr1 A q b k) i = true := by
  intro k
  induction k with
  | zero => exact h
  | succ k ih => simp only [rr1]; split
                 · rw [bt_or, ih]; rfl
                 · exact ih
theorem rr2_infl (A : Nat → Nat → Int32) (q : Int32) (b : Int64) (i : Nat) (h : bt64 b i = true) : ∀ k, bt64 (rr2 A q b k) i = true := by
  intro k
  induction k with
  | zero => exact h
  | succ k ih => simp only [rr2]; split
                 · rw [bt_or, ih]; rfl
                 · exact ih
theorem rnd_infl (A : Nat → Nat → Int32) (q : Int32) (nk nw : Nat) (b : Int64) (i : Nat) (_ : i < 64) (h : bt64 b i = true) : bt64 (rnd A q nk nw b) i = true := rr2_infl A q _ i (rr1_infl A q b i h nk) nw
def closesV (A : Nat → Nat → Int32) (hb : Nat → Int64) (nh nk np nw : Nat) (set q other need : Int32) : Int64 := fixR (rnd A q nk nw) 65 (cl2 A set q other need (cl1 hb set nh) np)
abbrev closesS (S : MS) (set q other need : Int32) : Int64 := closesV S.2.1 S.2.2.1 (mN S 12) (mN S 13) (mN S 30) (mN S 29) set q other need
def rowB (A : Nat → Nat → Int32) (h q : Int32) (ng : Nat) : Nat → Int64
  | 0 => 0
  | k + 1 => if hasB A h (nI k) q ng = true then rowB A h q ng k ||| jlshl 1 (nI k) else rowB A h q ng k
def layP (S : MS) (q : Int32) (i : Nat) : MS := (S.1, S.2.1, (fun h => if h < i then rowB S.2.1 (nI h) q (mN S 14) (mN S 13) else S.2.2.1 h), S.2.2.2)
def layQ (S : MS) (q : Int32) (i j : Nat) : MS := sL (layP S q i) i (rowB S.2.1 (nI i) q (mN S 14) j)
abbrev layS (S : MS) (q : Int32) : MS := layP S q (mN S 12)
theorem layP_0 (S : MS) (q : Int32) : layP S q 0 = S := rfl
theorem layQ_end (S : MS) (q : Int32) (i : Nat) : layQ S q i (mN S 13) = layP S q (i + 1) := by
  simp only [layQ, layP, sL, Prod.mk.injEq, true_and, and_true]
  funext h
  simp only [vp_updL]
  by_cases e : h = i
  · subst e; simp
  · by_cases e2 : h < i
    · rw [if_neg e, if_pos e2, if_pos (by omega)]
    · rw [if_neg e, if_neg e2, if_neg (by omega)]
theorem layQ_up (S : MS) (q : Int32) (i j : Nat) (x : Int64) (e : x = rowB S.2.1 (nI i) q (mN S 14) (j + 1)) : sL (layQ S q i j) i x = layQ S q i (j + 1) := by
  subst e
  simp only [layQ, layP, sL, Prod.mk.injEq, true_and, and_true]
  funext h
  simp only [vp_updL]
  by_cases e : h = i <;> simp [e]
theorem layQ_at (S : MS) (q : Int32) (i j : Nat) : (layQ S q i j).2.2.1 i = rowB S.2.1 (nI i) q (mN S 14) j := by simp [layQ, sL, vp_updL]
abbrev getsS (S : MS) (set q : Int32) : Int64 := closesS (layS S q) set q (-1) 0
def m_got (S : MS) (set q : Int32) : MS × Int64 := if areHolders S set 1 ∧ isIn q 0 (S.1 1) then (layS (sI S 0 0) q, getsS (sI S 0 0) set q) else ((sI S 0 0), -1)
abbrev othersV (c set : Int32) : Int32 := ((1 : Int32) <<< (c &&& 31)) - 1 &&& (set ^^^ (-1))
def allKeysV (n : Nat) : Int64 := if n = 0 then 0 else jlushr (-1) (64 - nI n)
def m_fallen (S : MS) (f w : Int32) : MS × Int64 := if ¬ isFall S f ∨ ¬ isIn w 0 1 then ((sI S 0 0), -1) else (layS (sI S 0 0) (S.1 1), if w = 1 then getsS (sI S 0 0) ((S.2.1 74) f.toNatClampNeg) (S.1 1) else allKeysV (mN S 13) &&& (getsS (sI S 0 0) (othersV (S.1 12) ((S.2.1 74) f.toNatClampNeg)) (S.1 1) ^^^ (-1)))

set_option maxHeartbeats 4000000 in
set_option maxRecDepth 100000 in
theorem c_X3_isForce (l : Launch) (D : gD) (B : Nat × Nat) (K : KS) (S : MS) (h : gHp) (n : Nat) (p : Int32) (q : Int32) (hp : vp_in p 40) : Con l yX3_isForce (ws_ yX3_isForce cX3_isForce 3 (some .boolean)) ({ frames := 0, cells := 0, slots := 0, locals := 0 }) D B [.ref 20, .int p, .int q] (wd K S h) n (gdt (some (.int (p2i (isForce S.2.1 p.toNatClampNeg q)))) (wd K (S) h) n) 0 0 := by
  refine Con.begin [some (.ref 20), some (.int p), some (.int q)] rfl rfl (Nat.le_of_ble_eq_true rfl) rfl rfl (fun X C R => ?_)
  refine g_aload_n C (pc := 0) dX3_isForce_0 rfl rfl ?_
  refine m_geta C 24 39 (pc := 1) dX3_isForce_1 (by decide) (fun _ => rfl) q1217 rfl ?_
  refine g_iload_n C (pc := 4) dX3_isForce_4 rfl ?_
  refine m_iald C (pc := 5) (v := (S.2.1 39) ((p).toNatClampNeg)) dX3_isForce_5 (by decide) rfl hp rfl ?_
  refine g_iload_n C (pc := 6) dX3_isForce_6 rfl ?_
  refine g_icmp_gt C (pc := 7) (tgt := 24) dX3_isForce_7 (by decide) (fun c_7 => ?_) (fun c_7 => ?_)
  · skip
    have c_7 : ((q) : Int32) < ((S.2.1 39) ((p).toNatClampNeg)) := c_7
    refine g_iconst C (pc := 24) (v := 0) dX3_isForce_24 (by decide) ?_
    exact g_zretD C (p2i_nb _) R dX3_isForce_25 (Nat.le_refl _) (Nat.le_refl _) ((p2i_f (by grind)).symm) rfl rfl
  · skip
    have c_7 : ¬ ((q) : Int32) < ((S.2.1 39) ((p).toNatClampNeg)) := c_7
    refine g_aload_n C (pc := 10) dX3_isForce_10 rfl rfl ?_
    refine m_geta C 25 40 (pc := 11) dX3_isForce_11 (by decide) (fun _ => rfl) q1218 rfl ?_
    refine g_iload_n C (pc := 14) dX3_isForce_14 rfl ?_
    refine m_iald C (pc := 15) (v := (S.2.1 40) ((p).toNatClampNeg)) dX3_isForce_15 (by decide) rfl hp rfl ?_
    refine g_iload_n C (pc := 16) dX3_isForce_16 rfl ?_
    refine g_icmp_le C (pc := 17) (tgt := 24) dX3_isForce_17 (by decide) (fun c_17 => ?_) (fun c_17 => ?_)
    · skip
      have c_17 : ¬ ((q) : Int32) < ((S.2.1 40) ((p).toNatClampNeg)) := c_17
      refine g_iconst C (pc := 24) (v := 0) dX3_isForce_24 (by decide) ?_
      exact g_zretD C (p2i_nb _) R dX3_isForce_25 (Nat.le_refl _) (Nat.le_refl _) ((p2i_f (by grind)).symm) rfl rfl
    · skip
      have c_17 : ((q) : Int32) < ((S.2.1 40) ((p).toNatClampNeg)) := c_17
      refine g_iconst C (pc := 20) (v := 1) dX3_isForce_20 (by decide) ?_
      refine g_goto C (pc := 21) (tgt := 25) dX3_isForce_21 (by decide) ?_
      exact g_zretD C (p2i_nb _) R dX3_isForce_25 (Nat.le_refl _) (Nat.le_refl _) ((p2i_t (by grind)).symm) rfl rfl
theorem ds_X3_isForce : yX3_isForce.cls ≠ "java/lang/invoke/MethodHandle" ∧ yX3_isForce.cls ≠ "java/lang/invoke/VarHandle" ∧ (parseMethodDescriptor yX3_isForce.desc).map (fun d => d.parameters.length) = some 2 := by decide +kernel
set_option maxHeartbeats 4000000 in
set_option maxRecDepth 100000 in
theorem c_X3_isWrapped (l : Launch) (D : gD) (B : Nat × Nat) (K : KS) (S : MS) (h : gHp) (n : Nat) (p : Int32) (q : Int32) (hp : vp_in p 40) : Con l yX3_isWrapped (ws_ yX3_isWrapped cX3_isWrapped 3 (some .boolean)) ({ frames := 0, cells := 0, slots := 0, locals := 0 }) D B [.ref 20, .int p, .int q] (wd K S h) n (gdt (some (.int (p2i (isWrapped S.2.1 p.toNatClampNeg q)))) (wd K (S) h) n) 0 0 := by
  refine Con.begin [some (.ref 20), some (.int p), some (.int q)] rfl rfl (Nat.le_of_ble_eq_true rfl) rfl rfl (fun X C R => ?_)
  refine g_aload_n C (pc := 0) dX3_isWrapped_0 rfl rfl ?_
  refine m_geta C 19 34 (pc := 1) dX3_isWrapped_1 (by decide) (fun _ => rfl) q1212 rfl ?_
  refine g_iload_n C (pc := 4) dX3_isWrapped_4 rfl ?_
  refine m_iald C (pc := 5) (v := (S.2.1 34) ((p).toNatClampNeg)) dX3_isWrapped_5 (by decide) rfl hp rfl ?_
  refine g_iload_n C (pc := 6) dX3_isWrapped_6 rfl ?_
  refine g_icmp_gt C (pc := 7) (tgt := 24) dX3_isWrapped_7 (by decide) (fun c_7 => ?_) (fun c_7 => ?_)
  · skip
    have c_7 : ((q) : Int32) < ((S.2.1 34) ((p).toNatClampNeg)) := c_7
    refine g_iconst C (pc := 24) (v := 0) dX3_isWrapped_24 (by decide) ?_
    exact g_zretD C (p2i_nb _) R dX3_isWrapped_25 (Nat.le_refl _) (Nat.le_refl _) ((p2i_f (by grind)).symm) rfl rfl
  · skip
    have c_7 : ¬ ((q) : Int32) < ((S.2.1 34) ((p).toNatClampNeg)) := c_7
    refine g_aload_n C (pc := 10) dX3_isWrapped_10 rfl rfl ?_
    refine m_geta C 20 35 (pc := 11) dX3_isWrapped_11 (by decide) (fun _ => rfl) q1213 rfl ?_
    refine g_iload_n C (pc := 14) dX3_isWrapped_14 rfl ?_
    refine m_iald C (pc := 15) (v := (S.2.1 35) ((p).toNatClampNeg)) dX3_isWrapped_15 (by decide) rfl hp rfl ?_
    refine g_iload_n C (pc := 16) dX3_isWrapped_16 rfl ?_
    refine g_icmp_le C (pc := 17) (tgt := 24) dX3_isWrapped_17 (by decide) (fun c_17 => ?_) (fun c_17 => ?_)
    · skip
      have c_17 : ¬ ((q) : Int32) < ((S.2.1 35) ((p).toNatClampNeg)) := c_17
      refine g_iconst C (pc := 24) (v := 0) dX3_isWrapped_24 (by decide) ?_
      exact g_zretD C (p2i_nb _) R dX3_isWrapped_25 (Nat.le_refl _) (Nat.le_refl _) ((p2i_f (by grind)).symm) rfl rfl
    · skip
      have c_17 : ((q) : Int32) < ((S.2.1 35) ((p).toNatClampNeg)) := c_17
      refine g_iconst C (pc := 20) (v := 1) dX3_isWrapped_20 (by decide) ?_
      refine g_goto C (pc := 21) (tgt := 25) dX3_isWrapped_21 (by decide) ?_
      exact g_zretD C (p2i_nb _) R dX3_isWrapped_25 (Nat.le_refl _) (Nat.le_refl _) ((p2i_t (by grind)).symm) rfl rfl
theorem ds_X3_isWrapped : yX3_isWrapped.cls ≠ "java/lang/invoke/MethodHandle" ∧ yX3_isWrapped.cls ≠ "java/lang/invoke/VarHandle" ∧ (parseMethodDescriptor yX3_isWrapped.desc).map (fun d => d.parameters.length) = some 2 := by decide +kernel
set_option maxHeartbeats 4000000 in
set_option maxRecDepth 100000 in
theorem c_X3_layHas (l : Launch) (D : gD) (B : Nat × Nat) (K : KS) (S : MS) (h : gHp) (n : Nat) (q : Int32) (hS : MOK S) : Con l yX3_layHas (ws_ yX3_layHas cX3_layHas 4 none) ({ frames := 1, cells := 0, slots := 0, locals := 25 }) D B [.ref 20, .int q] (wd K S h) n (gdt none (wd K (layS S q) h) n) 0 0 := by
  have b12 := hS.c12.2
  have b13 := hS.c13.2
  have b14 := hS.c14.2
  have b16 := hS.c16.2
  have b29 := hS.c29.2
  have b30 := hS.c30.2
  have b31 := hS.c31.2
  have b48 := hS.c48.2
  have b49 := hS.c49.2
  have b50 := hS.c50.2
  have b51 := hS.c51.2
  have b77 := hS.c77.2
  have b78 := hS.c78.2
  have b79 := hS.c79.2
  have b82 := hS.c82.2
  refine Con.begin [some (.ref 20), some (.int q), none, none] rfl rfl (Nat.le_of_ble_eq_true rfl) rfl rfl (fun X C R => ?_)
  refine g_iconst C (pc := 0) (v := 0) dX3_layHas_0 (by decide) ?_
  refine g_istore_n C (pc := 1) (L' := [some (.ref 20), some (.int q), some (.int 0), none]) dX3_layHas_1 (by decide) rfl rfl ?_
  have loop_2 : ∀ (d2 : Nat) (i : Nat) (S2 : MS), (i ≤ (mN S 12)) → (S2 = layP S q i) → (mN S 12) - i < d2 → G X D B (wd K S2 h) n 0 0 [some (.ref 20), some (.int q), some (.int (nI i)), none] 2 [] := by
    intro d2
    induction d2 with
    | zero =>
      intro i S2 hi hS2 hm2
      exact absurd hm2 (Nat.not_lt_zero _)
    | succ d2 ih2 =>
      intro i S2 hi hS2 hm2
      have kk12 : S2.1 12 = nI (mN S 12) := by rw [hS2]; exact hS.c12.1
      refine g_iload_n C (pc := 2) dX3_layHas_2 rfl ?_
      refine g_aload_n C (pc := 3) dX3_layHas_3 rfl rfl ?_
      refine m_geti C 12 (pc := 4) (v := nI (mN S 12)) dX3_layHas_4 rfl q1205 rfl kk12 ?_
      refine g_icmp_ge C (pc := 7) (tgt := 61) dX3_layHas_7 (by decide) (fun c_7 => ?_) (fun c_7 => ?_)
      · skip
        have c_7 : (mN S 12) ≤ i := Nat.not_lt.mp fun q => c_7 ((nI_ltI (a := i) (b := (mN S 12)) (by omega) (by omega)).mpr q)
        have hie : i = (mN S 12) := by omega
        subst hie
        exact g_vretD C R dX3_layHas_61 (Nat.le_refl _) (Nat.le_refl _) (congrArg (fun z => wd K z h) (hS2)) rfl
      · skip
        have c_7 : i < (mN S 12) := (nI_ltI (a := i) (b := (mN S 12)) (by omega) (by omega)).mp c_7
        refine g_aload_n C (pc := 10) dX3_layHas_10 rfl rfl ?_
        refine m_geta C 32 44 (pc := 11) dX3_layHas_11 (by decide) (fun _ => rfl) q1225 rfl ?_
        refine g_iload_n C (pc := 14) dX3_layHas_14 rfl ?_
        refine g_lconst C (pc := 15) (v := 0) dX3_layHas_15 (by decide) ?_
        refine m_last C (pc := 16) (j := i) dX3_layHas_16 (vp_in_nI (by omega) (by decide)) (nI_clamp (by omega)) ?_
        refine g_iconst C (pc := 17) (v := 0) dX3_layHas_17 (by decide) ?_
        refine g_istore_n C (pc := 18) (L' := [some (.ref 20), some (.int q), some (.int (nI i)), some (.int 0)]) dX3_layHas_18 (by decide) rfl rfl ?_
        have loop_19 : ∀ (d19 : Nat) (j : Nat) (S3 : MS), (j ≤ (mN S 13)) → (S3 = layQ S q i j) → (mN S 13) - j < d19 → G X D B (wd K S3 h) n 0 0 [some (.ref 20), some (.int q), some (.int (nI i)), some (.int (nI j))] 19 [] := by
          intro d19
          induction d19 with
          | zero =>
            intro j S3 hj hS3 hm19
            exact absurd hm19 (Nat.not_lt_zero _)
          | succ d19 ih19 =>
            intro j S3 hj hS3 hm19
            have k3_13 : S3.1 13 = nI (mN S 13) := by rw [hS3]; exact hS.c13.1
            have hS3ok : MOK S3 := by rw [hS3]; exact hS
            refine g_iload_n C (pc := 19) dX3_layHas_19 rfl ?_
            refine g_aload_n C (pc := 20) dX3_layHas_20 rfl rfl ?_
            refine m_geti C 13 (pc := 21) (v := nI (mN S 13)) dX3_layHas_21 rfl q1206 rfl k3_13 ?_
            refine g_icmp_ge C (pc := 24) (tgt := 55) dX3_layHas_24 (by decide) (fun c_24 => ?_) (fun c_24 => ?_)
            · skip
              have c_24 : (mN S 13) ≤ j := Nat.not_lt.mp fun q => c_24 ((nI_ltI (a := j) (b := (mN S 13)) (by omega) (by omega)).mpr q)
              have hje : j = (mN S 13) := by omega
              subst hje
              refine g_iinc C (pc := 55) (v := nI (i + 1)) (L' := [some (.ref 20), some (.int q), some (.int (nI (i + 1))), some (.int (nI (mN S 13)))]) dX3_layHas_55 rfl (nI_inc _) (by decide) rfl rfl ?_
              refine g_goto C (pc := 58) (tgt := 2) dX3_layHas_58 (by decide) ?_
              refine G.mask [true, true, true, false] rfl ?_
              exact ih2 (i + 1) S3 (by omega) (by rw [hS3, layQ_end]) (by omega)
            · skip
              have c_24 : j < (mN S 13) := (nI_ltI (a := j) (b := (mN S 13)) (by omega) (by omega)).mp c_24
              refine g_aload_n C (pc := 27) dX3_layHas_27 rfl rfl ?_
              refine g_iload_n C (pc := 28) dX3_layHas_28 rfl ?_
              refine g_iload_n C (pc := 29) dX3_layHas_29 rfl ?_
              refine g_iload_n C (pc := 30) dX3_layHas_30 rfl ?_
              refine g_callVD C (pc := 31) [.int (nI i), .int (nI j), .int q] [] dX3_layHas_31 (c_X3_has l D B K S3 h n (nI i) (nI j) q hS3ok) (lw_V q1518 q1520 qs41 q87 q1521) (wd_20 _ _ _) rfl rfl ds_X3_has ⟨rfl, rfl⟩ ⟨Nat.le_of_ble_eq_true rfl, Nat.le_of_ble_eq_true rfl⟩ rfl rfl ⟨Nat.le_of_ble_eq_true rfl, Nat.le_of_ble_eq_true rfl⟩ (Nat.le_of_ble_eq_true rfl) rfl ?_
              refine g_if_eq C (pc := 34) (tgt := 49) dX3_layHas_34 (by decide) (fun c_34 => ?_) (fun c_34 => ?_)
              · skip
                have c_34 : ¬ (hasN S3 (nI i) (nI j) q) = true := b2i_0.mp c_34
                have c_34 : ¬ hasB S.2.1 (nI i) (nI j) q (mN S 14) = true := by rw [hS3] at c_34; exact c_34
                have hbk : S3 = layQ S q i (j + 1) := by rw [hS3]; unfold layQ; simp only [rowB]; rw [if_neg c_34]
                try have hbk : sL S3 i (S3.2.2.1 i ||| jlshl 1 (nI j)) = layQ S q i (j + 1) := by rw [hS3, layQ_at]; exact layQ_up S q i j _ (by simp only [rowB]; rw [if_pos c_34])
                refine g_iinc C (pc := 49) (v := nI (j + 1)) (L' := [some (.ref 20), some (.int q), some (.int (nI i)), some (.int (nI (j + 1)))]) dX3_layHas_49 rfl (nI_inc _) (by decide) rfl rfl ?_
                refine g_goto C (pc := 52) (tgt := 19) dX3_layHas_52 (by decide) ?_
                refine G.mask [true, true, true, true] rfl ?_
                exact ih19 (j + 1) S3 (by omega) (hbk) (by omega)
              · skip
                have c_34 : (hasN S3 (nI i) (nI j) q) = true := b2i_n0.mp c_34
                have c_34 : hasB S.2.1 (nI i) (nI j) q (mN S 14) = true := by rw [hS3] at c_34; exact c_34
                refine g_aload_n C (pc := 37) dX3_layHas_37 rfl rfl ?_
                refine m_geta C 32 44 (pc := 38) dX3_layHas_38 (by decide) (fun _ => rfl) q1225 rfl ?_
                refine g_iload_n C (pc := 41) dX3_layHas_41 rfl ?_
                refine g_dup2 C (pc := 42) dX3_layHas_42 rfl rfl ?_
                refine m_lald C (pc := 43) (v := S3.2.2.1 i) dX3_layHas_43 (vp_in_nI (by omega) (by decide)) (gix (S3.2.2.1) (by omega)) ?_
                refine g_lconst C (pc := 44) (v := 1) dX3_layHas_44 (by decide) ?_
                refine g_iload_n C (pc := 45) dX3_layHas_45 rfl ?_
                refine g_lshl C (pc := 46) (v := jlshl 1 (nI j)) dX3_layHas_46 rfl ?_
                refine g_lor C (pc := 47) dX3_layHas_47 ?_
                refine m_last C (pc := 48) (j := i) dX3_layHas_48 (vp_in_nI (by omega) (by decide)) (nI_clamp (by omega)) ?_
                try have hbk : sL S3 i (S3.2.2.1 i ||| jlshl 1 (nI j)) = layQ S q i (j + 1) := by rw [hS3, layQ_at]; exact layQ_up S q i j _ (by simp only [rowB]; rw [if_pos c_34])
                refine g_iinc C (pc := 49) (v := nI (j + 1)) (L' := [some (.ref 20), some (.int q), some (.int (nI i)), some (.int (nI (j + 1)))]) dX3_layHas_49 rfl (nI_inc _) (by decide) rfl rfl ?_
                refine g_goto C (pc := 52) (tgt := 19) dX3_layHas_52 (by decide) ?_
                refine G.mask [true, true, true, true] rfl ?_
                exact ih19 (j + 1) (sL S3 i ((S3.2.2.1 i) ||| (jlshl 1 (nI j)))) (by omega) (hbk) (by omega)
        refine G.mask [true, true, true, true] rfl ?_
        exact loop_19 _ 0 (sL S2 i 0) (Nat.zero_le _) (by rw [hS2]; rfl) (Nat.lt_succ_self _)
  refine G.mask [true, true, true, false] rfl ?_
  exact loop_2 _ 0 S (Nat.zero_le _) ((layP_0 S q).symm) (Nat.lt_succ_self _)
theorem ds_X3_layHas : yX3_layHas.cls ≠ "java/lang/invoke/MethodHandle" ∧ yX3_layHas.cls ≠ "java/lang/invoke/VarHandle" ∧ (parseMethodDescriptor yX3_layHas.desc).map (fun d => d.parameters.length) = some 1 := by decide +kernel
set_option maxHeartbeats 4000000 in
set_option maxRecDepth 100000 in
theorem c_X3_closes (l : Launch) (D : gD) (B : Nat × Nat) (K : KS) (S : MS) (h : gHp) (n : Nat) (s : Int32) (q : Int32) (o : Int32) (w : Int32) (hS : MOK S) : Con l yX3_closes (ws_ yX3_closes cX3_closes 11 (some .long)) ({ frames := 1, cells := 0, slots := 0, locals := 22 }) D B [.ref 20, .int s, .int q, .int o, .int w] (wd K S h) n (gdt (some (.long (closesS S s q o w))) (wd K (S) h) n) 0 0 := by
  have b12 := hS.c12.2
  have b13 := hS.c13.2
  have b14 := hS.c14.2
  have b16 := hS.c16.2
  have b29 := hS.c29.2
  have b30 := hS.c30.2
  have b31 := hS.c31.2
  have b48 := hS.c48.2
  have b49 := hS.c49.2
  have b50 := hS.c50.2
  have b51 := hS.c51.2
  have b77 := hS.c77.2
  have b78 := hS.c78.2
  have b79 := hS.c79.2
  have b82 := hS.c82.2
  refine Con.begin [some (.ref 20), some (.int s), some (.int q), some (.int o), some (.int w), none, none, none, none, none, none] rfl rfl (Nat.le_of_ble_eq_true rfl) rfl rfl (fun X C R => ?_)
  refine g_lconst C (pc := 0) (v := 0) dX3_closes_0 (by decide) ?_
  refine g_lstore C (pc := 1) (L' := [some (.ref 20), some (.int s), some (.int q), some (.int o), some (.int w), some (.long 0), none, none, none, none, none]) dX3_closes_1 (by decide) rfl rfl ?_
  refine g_iconst C (pc := 3) (v := 0) dX3_closes_3 (by decide) ?_
  refine g_istore C (pc := 4) (L' := [some (.ref 20), some (.int s), some (.int q), some (.int o), some (.int w), some (.long 0), none, some (.int 0), none, none, none]) dX3_closes_4 (by decide) rfl rfl ?_
  have loop_6 : ∀ (d6 : Nat) (j : Nat) (x : Int64), (j ≤ (mN S 12)) → (x = cl1 S.2.2.1 s j) → (mN S 12) - j < d6 → G X D B (wd K S h) n 0 0 [some (.ref 20), some (.int s), some (.int q), some (.int o), some (.int w), some (.long x), none, some (.int (nI j)), none, none, none] 6 [] := by
    intro d6
    induction d6 with
    | zero =>
      intro j x hj hx hm6
      exact absurd hm6 (Nat.not_lt_zero _)
    | succ d6 ih6 =>
      intro j x hj hx hm6
      refine g_iload C (pc := 6) dX3_closes_6 rfl ?_
      refine g_aload_n C (pc := 8) dX3_closes_8 rfl rfl ?_
      refine m_geti C 12 (pc := 9) (v := nI (mN S 12)) dX3_closes_9 rfl q1205 rfl hS.c12.1 ?_
      refine g_icmp_ge C (pc := 12) (tgt := 43) dX3_closes_12 (by decide) (fun c_12 => ?_) (fun c_12 => ?_)
      · skip
        have c_12 : (mN S 12) ≤ j := Nat.not_lt.mp fun q => c_12 ((nI_ltI (a := j) (b := (mN S 12)) (by omega) (by omega)).mpr q)
        have hje : j = (mN S 12) := by omega
        subst hje
        subst hx
        refine g_iconst C (pc := 43) (v := 0) dX3_closes_43 (by decide) ?_
        refine g_istore C (pc := 44) (L' := [some (.ref 20), some (.int s), some (.int q), some (.int o), some (.int w), some (.long (cl1 S.2.2.1 s (mN S 12))), none, some (.int 0), none, none, none]) dX3_closes_44 (by decide) rfl rfl ?_
        have loop_46 : ∀ (d46 : Nat) (j : Nat) (x : Int64), (j ≤ (mN S 30)) → (x = cl2 S.2.1 s q o w (cl1 S.2.2.1 s (mN S 12)) j) → (mN S 30) - j < d46 → G X D B (wd K S h) n 0 0 [some (.ref 20), some (.int s), some (.int q), some (.int o), some (.int w), some (.long x), none, some (.int (nI j)), none, none, none] 46 [] := by
          intro d46
          induction d46 with
          | zero =>
            intro j x hj hx hm46
            exact absurd hm46 (Nat.not_lt_zero _)
          | succ d46 ih46 =>
            intro j x hj hx hm46
            refine g_iload C (pc := 46) dX3_closes_46 rfl ?_
            refine g_aload_n C (pc := 48) dX3_closes_48 rfl rfl ?_
            refine m_geti C 30 (pc := 49) (v := nI (mN S 30)) dX3_closes_49 rfl q1223 rfl hS.c30.1 ?_
            refine g_icmp_ge C (pc := 52) (tgt := 118) dX3_closes_52 (by decide) (fun c_52 => ?_) (fun c_52 => ?_)
            · skip
              have c_52 : (mN S 30) ≤ j := Nat.not_lt.mp fun q => c_52 ((nI_ltI (a := j) (b := (mN S 30)) (by omega) (by omega)).mpr q)
              have hje : j = (mN S 30) := by omega
              subst hje
              subst hx
              refine g_iconst C (pc := 118) (v := 1) dX3_closes_118 (by decide) ?_
              refine g_istore C (pc := 119) (L' := [some (.ref 20), some (.int s), some (.int q), some (.int o), some (.int w), some (.long (cl2 S.2.1 s q o w (cl1 S.2.2.1 s (mN S 12)) (mN S 30))), none, some (.int 1), none, none, none]) dX3_closes_119 (by decide) rfl rfl ?_
              have loop_121 : ∀ (d121 : Nat) (x : Int64) (f : Int32), (∀ z, zc x 64 < z → fixR (rnd S.2.1 q (mN S 13) (mN S 29)) z x = closesS S s q o w) → (¬ f = 0 ∨ rnd S.2.1 q (mN S 13) (mN S 29) x = x) → zc x 64 + (if f = 0 then 0 else 1) < d121 → G X D B (wd K S h) n 0 0 [some (.ref 20), some (.int s), some (.int q), some (.int o), some (.int w), some (.long x), none, some (.int f), none, none, none] 121 [] := by
                intro d121
                induction d121 with
                | zero =>
                  intro x f hx hf hm121
                  exact absurd hm121 (Nat.not_lt_zero _)
                | succ d121 ih121 =>
                  intro x f hx hf hm121
                  refine g_iload C (pc := 121) dX3_closes_121 rfl ?_
                  refine g_if_eq C (pc := 123) (tgt := 273) dX3_closes_123 (by decide) (fun c_123 => ?_) (fun c_123 => ?_)
                  · skip
                    have hend : x = closesS S s q o w := by rcases hf with z | z; exact absurd c_123 z; have := hx (zc x 64 + 1) (Nat.lt_succ_self _); rw [← this]; simp only [fixR]; rw [if_pos z]
                    refine g_lload C (pc := 273) dX3_closes_273 rfl ?_
                    exact g_lretD C R dX3_closes_275 (Nat.le_refl _) (Nat.le_refl _) (hend) rfl rfl
                  · skip
                    refine g_lload C (pc := 126) dX3_closes_126 rfl ?_
                    refine g_lstore C (pc := 128) (L' := [some (.ref 20), some (.int s), some (.int q), some (.int o), some (.int w), some (.long x), none, some (.int f), some (.long x), none, none]) dX3_closes_128 (by decide) rfl rfl ?_
                    refine g_iconst C (pc := 130) (v := 0) dX3_closes_130 (by decide) ?_
                    refine g_istore C (pc := 131) (L' := [some (.ref 20), some (.int s), some (.int q), some (.int o), some (.int w), some (.long x), none, some (.int f), some (.long x), none, some (.int 0)]) dX3_closes_131 (by decide) rfl rfl ?_
                    have loop_133 : ∀ (d133 : Nat) (j : Nat) (y : Int64), (j ≤ (mN S 13)) → (y = rr1 S.2.1 q x j) → (mN S 13) - j < d133 → G X D B (wd K S h) n 0 0 [some (.ref 20), some (.int s), some (.int q), some (.int o), some (.int w), some (.long y), none, none, some (.long x), none, some (.int (nI j))] 133 [] := by
                      intro d133
                      induction d133 with
                      | zero =>
                        intro j y hj hy hm133
                        exact absurd hm133 (Nat.not_lt_zero _)
                      | succ d133 ih133 =>
                        intro j y hj hy hm133
                        refine g_iload C (pc := 133) dX3_closes_133 rfl ?_
                        refine g_aload_n C (pc := 135) dX3_closes_135 rfl rfl ?_
                        refine m_geti C 13 (pc := 136) (v := nI (mN S 13)) dX3_closes_136 rfl q1206 rfl hS.c13.1 ?_
                        refine g_icmp_ge C (pc := 139) (tgt := 196) dX3_closes_139 (by decide) (fun c_139 => ?_) (fun c_139 => ?_)
                        · skip
                          have c_139 : (mN S 13) ≤ j := Nat.not_lt.mp fun q => c_139 ((nI_ltI (a := j) (b := (mN S 13)) (by omega) (by omega)).mpr q)
                          have hje : j = (mN S 13) := by omega
                          subst hje
                          subst hy
                          refine g_iconst C (pc := 196) (v := 0) dX3_closes_196 (by decide) ?_
                          refine g_istore C (pc := 197) (L' := [some (.ref 20), some (.int s), some (.int q), some (.int o), some (.int w), some (.long (rr1 S.2.1 q x (mN S 13))), none, none, some (.long x), none, some (.int 0)]) dX3_closes_197 (by decide) rfl rfl ?_
                          have loop_199 : ∀ (d199 : Nat) (j : Nat) (y : Int64), (j ≤ (mN S 29)) → (y = rr2 S.2.1 q (rr1 S.2.1 q x (mN S 13)) j) → (mN S 29) - j < d199 → G X D B (wd K S h) n 0 0 [some (.ref 20), some (.int s), some (.int q), some (.int o), some (.int w), some (.long y), none, none, some (.long x), none, some (.int (nI j))] 199 [] := by
                            intro d199
                            induction d199 with
                            | zero =>
                              intro j y hj hy hm199
                              exact absurd hm199 (Nat.not_lt_zero _)
                            | succ d199 ih199 =>
                              intro j y hj hy hm199
                              refine g_iload C (pc := 199) dX3_closes_199 rfl ?_
                              refine g_aload_n C (pc := 201) dX3_closes_201 rfl rfl ?_
                              refine m_geti C 29 (pc := 202) (v := nI (mN S 29)) dX3_closes_202 rfl q1222 rfl hS.c29.1 ?_
                              refine g_icmp_ge C (pc := 205) (tgt := 255) dX3_closes_205 (by decide) (fun c_205 => ?_) (fun c_205 => ?_)
                              · skip
                                have c_205 : (mN S 29) ≤ j := Nat.not_lt.mp fun q => c_205 ((nI_ltI (a := j) (b := (mN S 29)) (by omega) (by omega)).mpr q)
                                have hje : j = (mN S 29) := by omega
                                subst hje
                                refine g_lload C (pc := 255) dX3_closes_255 rfl ?_
                                refine g_lload C (pc := 257) dX3_closes_257 rfl ?_
                                refine g_lcmp C (pc := 259) dX3_closes_259 ?_
                                refine g_if_eq C (pc := 260) (tgt := 267) dX3_closes_260 (by decide) (fun c_260 => ?_) (fun c_260 => ?_)
                                · skip
                                  have c_260 := lcmp_0.mp c_260
                                  have hy : y = rnd S.2.1 q (mN S 13) (mN S 29) x := hy
                                  have hnx : ∀ z, zc y 64 < z → fixR (rnd S.2.1 q (mN S 13) (mN S 29)) z y = closesS S s q o w := by rw [c_260]; exact hx
                                  have hnf : ¬ (0 : Int32) = 0 ∨ rnd S.2.1 q (mN S 13) (mN S 29) y = y := Or.inr (by rw [c_260, ← hy, c_260])
                                  have hdec : zc y 64 + (if (0 : Int32) = 0 then 0 else 1) < d121 := by rw [c_260, if_pos rfl]; rw [if_neg c_123] at hm121; omega
                                  refine g_iconst C (pc := 267) (v := 0) dX3_closes_267 (by decide) ?_
                                  refine g_istore C (pc := 268) (L' := [some (.ref 20), some (.int s), some (.int q), some (.int o), some (.int w), some (.long y), none, some (.int 0), some (.long x), none, some (.int (nI (mN S 29)))]) dX3_closes_268 (by decide) rfl rfl ?_
                                  refine g_goto C (pc := 270) (tgt := 121) dX3_closes_270 (by decide) ?_
                                  refine G.mask [true, true, true, true, true, true, false, true, false, false, false] rfl ?_
                                  exact ih121 y 0 (hnx) (hnf) (hdec)
                                · skip
                                  have c_260 := lcmp_n0.mp c_260
                                  have hy : y = rnd S.2.1 q (mN S 13) (mN S 29) x := hy
                                  have hzl : zc y 64 < zc x 64 := by rw [hy]; exact zc_ne (rnd_infl _ _ _ _ x) (fun e => c_260 (hy.trans e))
                                  have hnx : ∀ z, zc y 64 < z → fixR (rnd S.2.1 q (mN S 13) (mN S 29)) z y = closesS S s q o w := fun z hz => by rw [← hx (z + zc x 64 + 1) (by omega)]; simp only [fixR]; rw [if_neg (fun e => c_260 (hy.trans e)), ← hy]; exact fixR_stable (rnd_infl _ _ _ _) _ _ _ hz (by omega)
                                  have hnf : ¬ (1 : Int32) = 0 ∨ rnd S.2.1 q (mN S 13) (mN S 29) y = y := Or.inl (by decide)
                                  have hdec : zc y 64 + (if (1 : Int32) = 0 then 0 else 1) < d121 := by rw [if_neg (by decide)]; rw [if_neg c_123] at hm121; omega
                                  refine g_iconst C (pc := 263) (v := 1) dX3_closes_263 (by decide) ?_
                                  refine g_goto C (pc := 264) (tgt := 268) dX3_closes_264 (by decide) ?_
                                  refine g_istore C (pc := 268) (L' := [some (.ref 20), some (.int s), some (.int q), some (.int o), some (.int w), some (.long y), none, some (.int 1), some (.long x), none, some (.int (nI (mN S 29)))]) dX3_closes_268 (by decide) rfl rfl ?_
                                  refine g_goto C (pc := 270) (tgt := 121) dX3_closes_270 (by decide) ?_
                                  refine G.mask [true, true, true, true, true, true, false, true, false, false, false] rfl ?_
                                  exact ih121 y 1 (hnx) (hnf) (hdec)
                              · skip
                                have c_205 : j < (mN S 29) := (nI_ltI (a := j) (b := (mN S 29)) (by omega) (by omega)).mp c_205
                                refine g_aload_n C (pc := 208) dX3_closes_208 rfl rfl ?_
                                refine g_iload C (pc := 209) dX3_closes_209 rfl ?_
                                refine g_iload_n C (pc := 211) dX3_closes_211 rfl ?_
                                refine g_callVD C (pc := 212) [.int (nI j), .int q] [] dX3_closes_212 (c_X3_isWrapped l D B K S h n (nI j) q (vp_in_nI (by omega) (by decide))) (lw_V q1627 q1629 qs52 q87 q1630) (wd_20 _ _ _) rfl rfl ds_X3_isWrapped ⟨rfl, rfl⟩ ⟨Nat.le_of_ble_eq_true rfl, Nat.le_of_ble_eq_true rfl⟩ rfl rfl ⟨Nat.le_of_ble_eq_true rfl, Nat.le_of_ble_eq_true rfl⟩ (Nat.le_of_ble_eq_true rfl) rfl ?_
                                refine g_if_eq C (pc := 215) (tgt := 249) dX3_closes_215 (by decide) (fun c_215 => ?_) (fun c_215 => ?_)
                                · skip
                                  have c_215 : ¬ (isWrapped S.2.1 (nI j).toNatClampNeg q) := p2i_0.mp c_215
                                  rw [nI_clamp (by omega)] at c_215
                                  refine g_iinc C (pc := 249) (v := nI (j + 1)) (L' := [some (.ref 20), some (.int s), some (.int q), some (.int o), some (.int w), some (.long y), none, none, some (.long x), none, some (.int (nI (j + 1)))]) dX3_closes_249 rfl (nI_inc _) (by decide) rfl rfl ?_
                                  refine g_goto C (pc := 252) (tgt := 199) dX3_closes_252 (by decide) ?_
                                  refine G.mask [true, true, true, true, true, true, false, false, true, false, true] rfl ?_
                                  exact ih199 (j + 1) y (by omega) (by simp only [rr2]; first | (rw [← hy, if_pos ⟨c_215, c_232⟩, e_x_247]) | (rw [← hy, if_neg (by grind)])) (by omega)
                                · skip
                                  have c_215 : (isWrapped S.2.1 (nI j).toNatClampNeg q) := p2i_n0.mp c_215
                                  rw [nI_clamp (by omega)] at c_215
                                  refine g_lload C (pc := 218) dX3_closes_218 rfl ?_
                                  refine g_aload_n C (pc := 220) dX3_closes_220 rfl rfl ?_
                                  refine m_geta C 18 33 (pc := 221) dX3_closes_221 (by decide) (fun _ => rfl) q1211 rfl ?_
                                  refine g_iload C (pc := 224) dX3_closes_224 rfl ?_
                                  refine m_iald C (pc := 226) (v := (S.2.1 33) j) dX3_closes_226 (by decide) rfl (vp_in_nI (by omega) (by decide)) (gix (S.2.1 33) (by omega)) ?_
                                  refine g_lshr C (pc := 227) (v := jlshr y ((S.2.1 33) j)) dX3_closes_227 rfl ?_
                                  refine g_lconst C (pc := 228) (v := 1) dX3_closes_228 (by decide) ?_
                                  refine g_land C (pc := 229) dX3_closes_229 ?_
                                  refine g_lconst C (pc := 230) (v := 1) dX3_closes_230 (by decide) ?_
                                  refine g_lcmp C (pc := 231) dX3_closes_231 ?_
                                  refine g_if_ne C (pc := 232) (tgt := 249) dX3_closes_232 (by decide) (fun c_232 => ?_) (fun c_232 => ?_)
                                  · skip
                                    have c_232 := lcmp_n0.mp c_232
                                    refine g_iinc C (pc := 249) (v := nI (j + 1)) (L' := [some (.ref 20), some (.int s), some (.int q), some (.int o), some (.int w), some (.long y), none, none, some (.long x), none, some (.int (nI (j + 1)))]) dX3_closes_249 rfl (nI_inc _) (by decide) rfl rfl ?_
                                    refine g_goto C (pc := 252) (tgt := 199) dX3_closes_252 (by decide) ?_
                                    refine G.mask [true, true, true, true, true, true, false, false, true, false, true] rfl ?_
                                    exact ih199 (j + 1) y (by omega) (by simp only [rr2]; first | (rw [← hy, if_pos ⟨c_215, c_232⟩, e_x_247]) | (rw [← hy, if_neg (by grind)])) (by omega)
                                  · skip
                                    have c_232 := lcmp_0.mp c_232
                                    refine g_lload C (pc := 235) dX3_closes_235 rfl ?_
                                    refine g_lconst C (pc := 237) (v := 1) dX3_closes_237 (by decide) ?_
                                    refine g_aload_n C (pc := 238) dX3_closes_238 rfl rfl ?_
                                    refine m_geta C 17 32 (pc := 239) dX3_closes_239 (by decide) (fun _ => rfl) q1210 rfl ?_
                                    refine g_iload C (pc := 242) dX3_closes_242 rfl ?_
                                    refine m_iald C (pc := 244) (v := (S.2.1 32) j) dX3_closes_244 (by decide) rfl (vp_in_nI (by omega) (by decide)) (gix (S.2.1 32) (by omega)) ?_
                                    refine g_lshl C (pc := 245) (v := jlshl 1 ((S.2.1 32) j)) dX3_closes_245 rfl ?_
                                    refine g_lor C (pc := 246) dX3_closes_246 ?_
                                    refine G.topl (fun x_247 e_x_247 => ?_)
                                    have e_x_247 : x_247 = y ||| (jlshl 1 ((S.2.1 32) j)) := e_x_247
                                    refine g_lstore C (pc := 247) (L' := [some (.ref 20), some (.int s), some (.int q), some (.int o), some (.int w), some (.long x_247), none, none, some (.long x), none, some (.int (nI j))]) dX3_closes_247 (by decide) rfl rfl ?_
                                    refine g_iinc C (pc := 249) (v := nI (j + 1)) (L' := [some (.ref 20), some (.int s), some (.int q), some (.int o), some (.int w), some (.long x_247), none, none, some (.long x), none, some (.int (nI (j + 1)))]) dX3_closes_249 rfl (nI_inc _) (by decide) rfl rfl ?_
                                    refine g_goto C (pc := 252) (tgt := 199) dX3_closes_252 (by decide) ?_
                                    refine G.mask [true, true, true, true, true, true, false, false, true, false, true] rfl ?_
                                    exact ih199 (j + 1) x_247 (by omega) (by simp only [rr2]; first | (rw [← hy, if_pos ⟨c_215, c_232⟩, e_x_247]) | (rw [← hy, if_neg (by grind)])) (by omega)
                          refine G.mask [true, true, true, true, true, true, false, false, true, false, true] rfl ?_
                          exact loop_199 _ 0 (rr1 S.2.1 q x (mN S 13)) (Nat.zero_le _) (rfl) (Nat.lt_succ_self _)
                        · skip
                          have c_139 : j < (mN S 13) := (nI_ltI (a := j) (b := (mN S 13)) (by omega) (by omega)).mp c_139
                          refine g_aload_n C (pc := 142) dX3_closes_142 rfl rfl ?_
                          refine m_geta C 2 21 (pc := 143) dX3_closes_143 (by decide) (fun _ => rfl) q1195 rfl ?_
                          refine g_iload C (pc := 146) dX3_closes_146 rfl ?_
                          refine m_iald C (pc := 148) (v := (S.2.1 21) j) dX3_closes_148 (by decide) rfl (vp_in_nI (by omega) (by decide)) (gix (S.2.1 21) (by omega)) ?_
                          refine g_iconst C (pc := 149) (v := 2) dX3_closes_149 (by decide) ?_
                          refine g_icmp_ne C (pc := 150) (tgt := 190) dX3_closes_150 (by decide) (fun c_150 => ?_) (fun c_150 => ?_)
                          · skip
                            have c_150 : ¬ (((S.2.1 21) j) : Int32) = 2 := c_150
                            refine g_iinc C (pc := 190) (v := nI (j + 1)) (L' := [some (.ref 20), some (.int s), some (.int q), some (.int o), some (.int w), some (.long y), none, none, some (.long x), none, some (.int (nI (j + 1)))]) dX3_closes_190 rfl (nI_inc _) (by decide) rfl rfl ?_
                            refine g_goto C (pc := 193) (tgt := 133) dX3_closes_193 (by decide) ?_
                            refine G.mask [true, true, true, true, true, true, false, false, true, false, true] rfl ?_
                            exact ih133 (j + 1) y (by omega) (by simp only [rr1]; first | (rw [← hy, if_pos ⟨c_150, c_161, c_178⟩, e_x_188]) | (rw [← hy, if_neg (by grind)])) (by omega)
                          · skip
                            have c_150 : (((S.2.1 21) j) : Int32) = 2 := c_150
                            refine g_aload_n C (pc := 153) dX3_closes_153 rfl rfl ?_
                            refine m_geta C 5 24 (pc := 154) dX3_closes_154 (by decide) (fun _ => rfl) q1198 rfl ?_
                            refine g_iload C (pc := 157) dX3_closes_157 rfl ?_
                            refine m_iald C (pc := 159) (v := (S.2.1 24) j) dX3_closes_159 (by decide) rfl (vp_in_nI (by omega) (by decide)) (gix (S.2.1 24) (by omega)) ?_
                            refine g_iload_n C (pc := 160) dX3_closes_160 rfl ?_
                            refine g_icmp_gt C (pc := 161) (tgt := 190) dX3_closes_161 (by decide) (fun c_161 => ?_) (fun c_161 => ?_)
                            · skip
                              have c_161 : ((q) : Int32) < ((S.2.1 24) j) := c_161
                              refine g_iinc C (pc := 190) (v := nI (j + 1)) (L' := [some (.ref 20), some (.int s), some (.int q), some (.int o), some (.int w), some (.long y), none, none, some (.long x), none, some (.int (nI (j + 1)))]) dX3_closes_190 rfl (nI_inc _) (by decide) rfl rfl ?_
                              refine g_goto C (pc := 193) (tgt := 133) dX3_closes_193 (by decide) ?_
                              refine G.mask [true, true, true, true, true, true, false, false, true, false, true] rfl ?_
                              exact ih133 (j + 1) y (by omega) (by simp only [rr1]; first | (rw [← hy, if_pos ⟨c_150, c_161, c_178⟩, e_x_188]) | (rw [← hy, if_neg (by grind)])) (by omega)
                            · skip
                              have c_161 : ¬ ((q) : Int32) < ((S.2.1 24) j) := c_161
                              refine g_lload C (pc := 164) dX3_closes_164 rfl ?_
                              refine g_aload_n C (pc := 166) dX3_closes_166 rfl rfl ?_
                              refine m_geta C 4 23 (pc := 167) dX3_closes_167 (by decide) (fun _ => rfl) q1197 rfl ?_
                              refine g_iload C (pc := 170) dX3_closes_170 rfl ?_
                              refine m_iald C (pc := 172) (v := (S.2.1 23) j) dX3_closes_172 (by decide) rfl (vp_in_nI (by omega) (by decide)) (gix (S.2.1 23) (by omega)) ?_
                              refine g_lshr C (pc := 173) (v := jlshr y ((S.2.1 23) j)) dX3_closes_173 rfl ?_
                              refine g_lconst C (pc := 174) (v := 1) dX3_closes_174 (by decide) ?_
                              refine g_land C (pc := 175) dX3_closes_175 ?_
                              refine g_lconst C (pc := 176) (v := 1) dX3_closes_176 (by decide) ?_
                              refine g_lcmp C (pc := 177) dX3_closes_177 ?_
                              refine g_if_ne C (pc := 178) (tgt := 190) dX3_closes_178 (by decide) (fun c_178 => ?_) (fun c_178 => ?_)
                              · skip
                                have c_178 := lcmp_n0.mp c_178
                                refine g_iinc C (pc := 190) (v := nI (j + 1)) (L' := [some (.ref 20), some (.int s), some (.int q), some (.int o), some (.int w), some (.long y), none, none, some (.long x), none, some (.int (nI (j + 1)))]) dX3_closes_190 rfl (nI_inc _) (by decide) rfl rfl ?_
                                refine g_goto C (pc := 193) (tgt := 133) dX3_closes_193 (by decide) ?_
                                refine G.mask [true, true, true, true, true, true, false, false, true, false, true] rfl ?_
                                exact ih133 (j + 1) y (by omega) (by simp only [rr1]; first | (rw [← hy, if_pos ⟨c_150, c_161, c_178⟩, e_x_188]) | (rw [← hy, if_neg (by grind)])) (by omega)
                              · skip
                                have c_178 := lcmp_0.mp c_178
                                refine g_lload C (pc := 181) dX3_closes_181 rfl ?_
                                refine g_lconst C (pc := 183) (v := 1) dX3_closes_183 (by decide) ?_
                                refine g_iload C (pc := 184) dX3_closes_184 rfl ?_
                                refine g_lshl C (pc := 186) (v := jlshl 1 (nI j)) dX3_closes_186 rfl ?_
                                refine g_lor C (pc := 187) dX3_closes_187 ?_
                                refine G.topl (fun x_188 e_x_188 => ?_)
                                have e_x_188 : x_188 = y ||| (jlshl 1 (nI j)) := e_x_188
                                refine g_lstore C (pc := 188) (L' := [some (.ref 20), some (.int s), some (.int q), some (.int o), some (.int w), some (.long x_188), none, none, some (.long x), none, some (.int (nI j))]) dX3_closes_188 (by decide) rfl rfl ?_
                                refine g_iinc C (pc := 190) (v := nI (j + 1)) (L' := [some (.ref 20), some (.int s), some (.int q), some (.int o), some (.int w), some (.long x_188), none, none, some (.long x), none, some (.int (nI (j + 1)))]) dX3_closes_190 rfl (nI_inc _) (by decide) rfl rfl ?_
                                refine g_goto C (pc := 193) (tgt := 133) dX3_closes_193 (by decide) ?_
                                refine G.mask [true, true, true, true, true, true, false, false, true, false, true] rfl ?_
                                exact ih133 (j + 1) x_188 (by omega) (by simp only [rr1]; first | (rw [← hy, if_pos ⟨c_150, c_161, c_178⟩, e_x_188]) | (rw [← hy, if_neg (by grind)])) (by omega)
                    refine G.mask [true, true, true, true, true, true, false, false, true, false, true] rfl ?_
                    exact loop_133 _ 0 x (Nat.zero_le _) (rfl) (Nat.lt_succ_self _)
              refine G.mask [true, true, true, true, true, true, false, true, false, false, false] rfl ?_
              exact loop_121 _ (cl2 S.2.1 s q o w (cl1 S.2.2.1 s (mN S 12)) (mN S 30)) 1 (fun z hz => fixR_stable (rnd_infl _ _ _ _) _ 65 _ hz (by have := zc_le (cl2 S.2.1 s q o w (cl1 S.2.2.1 s (mN S 12)) (mN S 30)) 64; omega)) (Or.inl (by decide)) (Nat.lt_succ_self _)
            · skip
              have c_52 : j < (mN S 30) := (nI_ltI (a := j) (b := (mN S 30)) (by omega) (by omega)).mp c_52
              refine g_aload_n C (pc := 55) dX3_closes_55 rfl rfl ?_
              refine g_iload C (pc := 56) dX3_closes_56 rfl ?_
              refine g_iload_n C (pc := 58) dX3_closes_58 rfl ?_
              refine g_callVD C (pc := 59) [.int (nI j), .int q] [] dX3_closes_59 (c_X3_isForce l D B K S h n (nI j) q (vp_in_nI (by omega) (by decide))) (lw_V q1623 q1625 qs51 q87 q1626) (wd_20 _ _ _) rfl rfl ds_X3_isForce ⟨rfl, rfl⟩ ⟨Nat.le_of_ble_eq_true rfl, Nat.le_of_ble_eq_true rfl⟩ rfl rfl ⟨Nat.le_of_ble_eq_true rfl, Nat.le_of_ble_eq_true rfl⟩ (Nat.le_of_ble_eq_true rfl) rfl ?_
              refine g_if_eq C (pc := 62) (tgt := 112) dX3_closes_62 (by decide) (fun c_62 => ?_) (fun c_62 => ?_)
              · skip
                have c_62 : ¬ (isForce S.2.1 (nI j).toNatClampNeg q) := p2i_0.mp c_62
                rw [nI_clamp (by omega)] at c_62
                refine g_iinc C (pc := 112) (v := nI (j + 1)) (L' := [some (.ref 20), some (.int s), some (.int q), some (.int o), some (.int w), some (.long x), none, some (.int (nI (j + 1))), none, none, none]) dX3_closes_112 rfl (nI_inc _) (by decide) rfl rfl ?_
                refine g_goto C (pc := 115) (tgt := 46) dX3_closes_115 (by decide) ?_
                refine G.mask [true, true, true, true, true, true, false, true, false, false, false] rfl ?_
                exact ih46 (j + 1) x (by omega) (by simp only [cl2]; first | (rw [if_pos ⟨c_62, hge⟩, e_x_110, hx]) | (rw [if_neg (fun z => c_62 z.1)]; exact hx) | (rw [if_neg (fun z => z.2 hlt)]; exact hx)) (by omega)
              · skip
                have c_62 : (isForce S.2.1 (nI j).toNatClampNeg q) := p2i_n0.mp c_62
                rw [nI_clamp (by omega)] at c_62
                refine g_iload_n C (pc := 65) dX3_closes_65 rfl ?_
                refine g_aload_n C (pc := 66) dX3_closes_66 rfl rfl ?_
                refine m_geta C 22 37 (pc := 67) dX3_closes_67 (by decide) (fun _ => rfl) q1215 rfl ?_
                refine g_iload C (pc := 70) dX3_closes_70 rfl ?_
                refine m_iald C (pc := 72) (v := (S.2.1 37) j) dX3_closes_72 (by decide) rfl (vp_in_nI (by omega) (by decide)) (gix (S.2.1 37) (by omega)) ?_
                refine g_iand C (pc := 73) dX3_closes_73 ?_
                refine g_callSD C (pc := 74) [.int (s &&& ((S.2.1 37) j))] [] dX3_closes_74 (c_J5_bitCount l D B (wd K S h) n (s &&& ((S.2.1 37) j)) ) (lw_S q1542 q545 q98 q546) ds_J5_bitCount ⟨rfl, rfl⟩ ⟨Nat.le_of_ble_eq_true rfl, Nat.le_of_ble_eq_true rfl⟩ rfl rfl ⟨Nat.le_of_ble_eq_true rfl, Nat.le_of_ble_eq_true rfl⟩ (Nat.le_of_ble_eq_true rfl) rfl ?_
                refine g_iload C (pc := 77) dX3_closes_77 rfl ?_
                refine g_iload_n C (pc := 79) dX3_closes_79 rfl ?_
                refine g_icmp_ne C (pc := 80) (tgt := 88) dX3_closes_80 (by decide) (fun c_80 => ?_) (fun c_80 => ?_)
                · skip
                  have c_80 : ¬ ((nI j) : Int32) = o := c_80
                  refine g_aload_n C (pc := 88) dX3_closes_88 rfl rfl ?_
                  refine m_geta C 23 38 (pc := 89) dX3_closes_89 (by decide) (fun _ => rfl) q1216 rfl ?_
                  refine g_iload C (pc := 92) dX3_closes_92 rfl ?_
                  refine m_iald C (pc := 94) (v := (S.2.1 38) j) dX3_closes_94 (by decide) rfl (vp_in_nI (by omega) (by decide)) (gix (S.2.1 38) (by omega)) ?_
                  refine g_icmp_lt C (pc := 95) (tgt := 112) dX3_closes_95 (by decide) (fun c_95 => ?_) (fun c_95 => ?_)
                  · skip
                    have c_95 : ((bitc (s &&& ((S.2.1 37) j))) : Int32) < ((S.2.1 38) j) := c_95
                    have hlt : bitc (s &&& S.2.1 37 j) < (if nI j = o then w else S.2.1 38 j) := by first | (rw [if_pos c_80]; exact c_95) | (rw [if_neg c_80]; exact c_95)
                    refine g_iinc C (pc := 112) (v := nI (j + 1)) (L' := [some (.ref 20), some (.int s), some (.int q), some (.int o), some (.int w), some (.long x), none, some (.int (nI (j + 1))), none, none, none]) dX3_closes_112 rfl (nI_inc _) (by decide) rfl rfl ?_
                    refine g_goto C (pc := 115) (tgt := 46) dX3_closes_115 (by decide) ?_
                    refine G.mask [true, true, true, true, true, true, false, true, false, false, false] rfl ?_
                    exact ih46 (j + 1) x (by omega) (by simp only [cl2]; first | (rw [if_pos ⟨c_62, hge⟩, e_x_110, hx]) | (rw [if_neg (fun z => c_62 z.1)]; exact hx) | (rw [if_neg (fun z => z.2 hlt)]; exact hx)) (by omega)
                  · skip
                    have c_95 : ¬ ((bitc (s &&& ((S.2.1 37) j))) : Int32) < ((S.2.1 38) j) := c_95
                    have hge : ¬ bitc (s &&& S.2.1 37 j) < (if nI j = o then w else S.2.1 38 j) := by first | (rw [if_pos c_80]; exact c_95) | (rw [if_neg c_80]; exact c_95)
                    refine g_lload C (pc := 98) dX3_closes_98 rfl ?_
                    refine g_lconst C (pc := 100) (v := 1) dX3_closes_100 (by decide) ?_
                    refine g_aload_n C (pc := 101) dX3_closes_101 rfl rfl ?_
                    refine m_geta C 21 36 (pc := 102) dX3_closes_102 (by decide) (fun _ => rfl) q1214 rfl ?_
                    refine g_iload C (pc := 105) dX3_closes_105 rfl ?_
                    refine m_iald C (pc := 107) (v := (S.2.1 36) j) dX3_closes_107 (by decide) rfl (vp_in_nI (by omega) (by decide)) (gix (S.2.1 36) (by omega)) ?_
                    refine g_lshl C (pc := 108) (v := jlshl 1 ((S.2.1 36) j)) dX3_closes_108 rfl ?_
                    refine g_lor C (pc := 109) dX3_closes_109 ?_
                    refine G.topl (fun x_110 e_x_110 => ?_)
                    have e_x_110 : x_110 = x ||| (jlshl 1 ((S.2.1 36) j)) := e_x_110
                    refine g_lstore C (pc := 110) (L' := [some (.ref 20), some (.int s), some (.int q), some (.int o), some (.int w), some (.long x_110), none, some (.int (nI j)), none, none, none]) dX3_closes_110 (by decide) rfl rfl ?_
                    refine g_iinc C (pc := 112) (v := nI (j + 1)) (L' := [some (.ref 20), some (.int s), some (.int q), some (.int o), some (.int w), some (.long x_110), none, some (.int (nI (j + 1))), none, none, none]) dX3_closes_112 rfl (nI_inc _) (by decide) rfl rfl ?_
                    refine g_goto C (pc := 115) (tgt := 46) dX3_closes_115 (by decide) ?_
                    refine G.mask [true, true, true, true, true, true, false, true, false, false, false] rfl ?_
                    exact ih46 (j + 1) x_110 (by omega) (by simp only [cl2]; first | (rw [if_pos ⟨c_62, hge⟩, e_x_110, hx]) | (rw [if_neg (fun z => c_62 z.1)]; exact hx) | (rw [if_neg (fun z => z.2 hlt)]; exact hx)) (by omega)
                · skip
                  have c_80 : ((nI j) : Int32) = o := c_80
                  refine g_iload C (pc := 83) dX3_closes_83 rfl ?_
                  refine g_goto C (pc := 85) (tgt := 95) dX3_closes_85 (by decide) ?_
                  refine g_icmp_lt C (pc := 95) (tgt := 112) dX3_closes_95 (by decide) (fun c_95 => ?_) (fun c_95 => ?_)
                  · skip
                    have c_95 : ((bitc (s &&& ((S.2.1 37) j))) : Int32) < w := c_95
                    have hlt : bitc (s &&& S.2.1 37 j) < (if nI j = o then w else S.2.1 38 j) := by first | (rw [if_pos c_80]; exact c_95) | (rw [if_neg c_80]; exact c_95)
                    refine g_iinc C (pc := 112) (v := nI (j + 1)) (L' := [some (.ref 20), some (.int s), some (.int q), some (.int o), some (.int w), some (.long x), none, some (.int (nI (j + 1))), none, none, none]) dX3_closes_112 rfl (nI_inc _) (by decide) rfl rfl ?_
                    refine g_goto C (pc := 115) (tgt := 46) dX3_closes_115 (by decide) ?_
                    refine G.mask [true, true, true, true, true, true, false, true, false, false, false] rfl ?_
                    exact ih46 (j + 1) x (by omega) (by simp only [cl2]; first | (rw [if_pos ⟨c_62, hge⟩, e_x_110, hx]) | (rw [if_neg (fun z => c_62 z.1)]; exact hx) | (rw [if_neg (fun z => z.2 hlt)]; exact hx)) (by omega)
                  · skip
                    have c_95 : ¬ ((bitc (s &&& ((S.2.1 37) j))) : Int32) < w := c_95
                    have hge : ¬ bitc (s &&& S.2.1 37 j) < (if nI j = o then w else S.2.1 38 j) := by first | (rw [if_pos c_80]; exact c_95) | (rw [if_neg c_80]; exact c_95)
                    refine g_lload C (pc := 98) dX3_closes_98 rfl ?_
                    refine g_lconst C (pc := 100) (v := 1) dX3_closes_100 (by decide) ?_
                    refine g_aload_n C (pc := 101) dX3_closes_101 rfl rfl ?_
                    refine m_geta C 21 36 (pc := 102) dX3_closes_102 (by decide) (fun _ => rfl) q1214 rfl ?_
                    refine g_iload C (pc := 105) dX3_closes_105 rfl ?_
                    refine m_iald C (pc := 107) (v := (S.2.1 36) j) dX3_closes_107 (by decide) rfl (vp_in_nI (by omega) (by decide)) (gix (S.2.1 36) (by omega)) ?_
                    refine g_lshl C (pc := 108) (v := jlshl 1 ((S.2.1 36) j)) dX3_closes_108 rfl ?_
                    refine g_lor C (pc := 109) dX3_closes_109 ?_
                    refine G.topl (fun x_110 e_x_110 => ?_)
                    have e_x_110 : x_110 = x ||| (jlshl 1 ((S.2.1 36) j)) := e_x_110
                    refine g_lstore C (pc := 110) (L' := [some (.ref 20), some (.int s), some (.int q), some (.int o), some (.int w), some (.long x_110), none, some (.int (nI j)), none, none, none]) dX3_closes_110 (by decide) rfl rfl ?_
                    refine g_iinc C (pc := 112) (v := nI (j + 1)) (L' := [some (.ref 20), some (.int s), some (.int q), some (.int o), some (.int w), some (.long x_110), none, some (.int (nI (j + 1))), none, none, none]) dX3_closes_112 rfl (nI_inc _) (by decide) rfl rfl ?_
                    refine g_goto C (pc := 115) (tgt := 46) dX3_closes_115 (by decide) ?_
                    refine G.mask [true, true, true, true, true, true, false, true, false, false, false] rfl ?_
                    exact ih46 (j + 1) x_110 (by omega) (by simp only [cl2]; first | (rw [if_pos ⟨c_62, hge⟩, e_x_110, hx]) | (rw [if_neg (fun z => c_62 z.1)]; exact hx) | (rw [if_neg (fun z => z.2 hlt)]; exact hx)) (by omega)
        refine G.mask [true, true, true, true, true, true, false, true, false, false, false] rfl ?_
        exact loop_46 _ 0 (cl1 S.2.2.1 s (mN S 12)) (Nat.zero_le _) (rfl) (Nat.lt_succ_self _)
      · skip
        have c_12 : j < (mN S 12) := (nI_ltI (a := j) (b := (mN S 12)) (by omega) (by omega)).mp c_12
        refine g_iload_n C (pc := 15) dX3_closes_15 rfl ?_
        refine g_iload C (pc := 16) dX3_closes_16 rfl ?_
        refine g_ishr C (pc := 18) dX3_closes_18 ?_
        refine g_iconst C (pc := 19) (v := 1) dX3_closes_19 (by decide) ?_
        refine g_iand C (pc := 20) dX3_closes_20 ?_
        refine g_iconst C (pc := 21) (v := 1) dX3_closes_21 (by decide) ?_
        refine g_icmp_ne C (pc := 22) (tgt := 37) dX3_closes_22 (by decide) (fun c_22 => ?_) (fun c_22 => ?_)
        · skip
          have c_22 : ¬ (((s >>> ((nI j) &&& 31)) &&& 1) : Int32) = 1 := c_22
          refine g_iinc C (pc := 37) (v := nI (j + 1)) (L' := [some (.ref 20), some (.int s), some (.int q), some (.int o), some (.int w), some (.long x), none, some (.int (nI (j + 1))), none, none, none]) dX3_closes_37 rfl (nI_inc _) (by decide) rfl rfl ?_
          refine g_goto C (pc := 40) (tgt := 6) dX3_closes_40 (by decide) ?_
          refine G.mask [true, true, true, true, true, true, false, true, false, false, false] rfl ?_
          exact ih6 (j + 1) x (by omega) (by simp only [cl1]; first | (rw [if_pos c_22, e_x_35, hx]) | (rw [if_neg c_22]; exact hx)) (by omega)
        · skip
          have c_22 : (((s >>> ((nI j) &&& 31)) &&& 1) : Int32) = 1 := c_22
          refine g_lload C (pc := 25) dX3_closes_25 rfl ?_
          refine g_aload_n C (pc := 27) dX3_closes_27 rfl rfl ?_
          refine m_geta C 32 44 (pc := 28) dX3_closes_28 (by decide) (fun _ => rfl) q1225 rfl ?_
          refine g_iload C (pc := 31) dX3_closes_31 rfl ?_
          refine m_lald C (pc := 33) (v := S.2.2.1 j) dX3_closes_33 (vp_in_nI (by omega) (by decide)) (gix (S.2.2.1) (by omega)) ?_
          refine g_lor C (pc := 34) dX3_closes_34 ?_
          refine G.topl (fun x_35 e_x_35 => ?_)
          have e_x_35 : x_35 = x ||| (S.2.2.1 j) := e_x_35
          refine g_lstore C (pc := 35) (L' := [some (.ref 20), some (.int s), some (.int q), some (.int o), some (.int w), some (.long x_35), none, some (.int (nI j)), none, none, none]) dX3_closes_35 (by decide) rfl rfl ?_
          refine g_iinc C (pc := 37) (v := nI (j + 1)) (L' := [some (.ref 20), some (.int s), some (.int q), some (.int o), some (.int w), some (.long x_35), none, some (.int (nI (j + 1))), none, none, none]) dX3_closes_37 rfl (nI_inc _) (by decide) rfl rfl ?_
          refine g_goto C (pc := 40) (tgt := 6) dX3_closes_40 (by decide) ?_
          refine G.mask [true, true, true, true, true, true, false, true, false, false, false] rfl ?_
          exact ih6 (j + 1) x_35 (by omega) (by simp only [cl1]; first | (rw [if_pos c_22, e_x_35, hx]) | (rw [if_neg c_22]; exact hx)) (by omega)
  refine G.mask [true, true, true, true, true, true, false, true, false, false, false] rfl ?_
  exact loop_6 _ 0 0 (Nat.zero_le _) (rfl) (Nat.lt_succ_self _)
theorem ds_X3_closes : yX3_closes.cls ≠ "java/lang/invoke/MethodHandle" ∧ yX3_closes.cls ≠ "java/lang/invoke/VarHandle" ∧ (parseMethodDescriptor yX3_closes.desc).map (fun d => d.parameters.length) = some 4 := by decide +kernel
set_option maxHeartbeats 4000000 in
set_option maxRecDepth 100000 in
theorem c_X3_gets (l : Launch) (D : gD) (B : Nat × Nat) (K : KS) (S : MS) (h : gHp) (n : Nat) (s : Int32) (q : Int32) (hS : MOK S) : Con l yX3_gets (ws_ yX3_gets cX3_gets 3 (some .long)) ({ frames := 2, cells := 0, slots := 0, locals := 52 }) D B [.ref 20, .int s, .int q] (wd K S h) n (gdt (some (.long (getsS S s q))) (wd K (layS S q) h) n) 0 0 := by
  have b12 := hS.c12.2
  have b13 := hS.c13.2
  have b14 := hS.c14.2
  have b16 := hS.c16.2
  have b29 := hS.c29.2
  have b30 := hS.c30.2
  have b31 := hS.c31.2
  have b48 := hS.c48.2
  have b49 := hS.c49.2
  have b50 := hS.c50.2
  have b51 := hS.c51.2
  have b77 := hS.c77.2
  have b78 := hS.c78.2
  have b79 := hS.c79.2
  have b82 := hS.c82.2
  refine Con.begin [some (.ref 20), some (.int s), some (.int q)] rfl rfl (Nat.le_of_ble_eq_true rfl) rfl rfl (fun X C R => ?_)
  refine g_aload_n C (pc := 0) dX3_gets_0 rfl rfl ?_
  refine g_iload_n C (pc := 1) dX3_gets_1 rfl ?_
  refine g_callVDv C (pc := 2) [.int q] [] dX3_gets_2 (c_X3_layHas l D B K S h n q hS) (lw_V q1615 q1617 qs49 q87 q1618) (wd_20 _ _ _) rfl rfl ds_X3_layHas ⟨rfl, rfl⟩ ⟨Nat.le_of_ble_eq_true rfl, Nat.le_of_ble_eq_true rfl⟩ rfl rfl ⟨Nat.le_of_ble_eq_true rfl, Nat.le_of_ble_eq_true rfl⟩ (Nat.le_of_ble_eq_true rfl) rfl ?_
  refine G.nmS (fun S_2 e_S_2 => ?_)
  refine g_aload_n C (pc := 5) dX3_gets_5 rfl rfl ?_
  refine g_iload_n C (pc := 6) dX3_gets_6 rfl ?_
  refine g_iload_n C (pc := 7) dX3_gets_7 rfl ?_
  refine g_iconst C (pc := 8) (v := (-1)) dX3_gets_8 (by decide) ?_
  refine g_iconst C (pc := 9) (v := 0) dX3_gets_9 (by decide) ?_
  refine g_callVD C (pc := 10) [.int s, .int q, .int (-1), .int 0] [] dX3_gets_10 (c_X3_closes l D B K S_2 h n s q (-1) 0 (by rw [e_S_2]; exact hS)) (lw_V q1619 q1621 qs50 q87 q1622) (wd_20 _ _ _) rfl rfl ds_X3_closes ⟨rfl, rfl⟩ ⟨Nat.le_of_ble_eq_true rfl, Nat.le_of_ble_eq_true rfl⟩ rfl rfl ⟨Nat.le_of_ble_eq_true rfl, Nat.le_of_ble_eq_true rfl⟩ (Nat.le_of_ble_eq_true rfl) rfl ?_
  exact g_lretD C R dX3_gets_13 (Nat.le_refl _) (Nat.le_refl _) (by rw [e_S_2]) (congrArg (fun z => wd K z h) (e_S_2)) rfl
theorem ds_X3_gets : yX3_gets.cls ≠ "java/lang/invoke/MethodHandle" ∧ yX3_gets.cls ≠ "java/lang/invoke/VarHandle" ∧ (parseMethodDescriptor yX3_gets.desc).map (fun d => d.parameters.length) = some 2 := by decide +kernel
set_option maxHeartbeats 4000000 in
set_option maxRecDepth 100000 in
theorem c_X3_got (l : Launch) (D : gD) (B : Nat × Nat) (K : KS) (S : MS) (h : gHp) (n : Nat) (s : Int32) (q : Int32) (hS : MOK S) : Con l yX3_got (ws_ yX3_got cX3_got 3 (some .long)) ({ frames := 3, cells := 0, slots := 0, locals := 74 }) D B [.ref 20, .int s, .int q] (wd K S h) n (gdt (some (.long ((m_got S s q).2))) (wd K ((m_got S s q).1) h) n) 0 0 := by
  have b12 := hS.c12.2
  have b13 := hS.c13.2
  have b14 := hS.c14.2
  have b16 := hS.c16.2
  have b29 := hS.c29.2
  have b30 := hS.c30.2
  have b31 := hS.c31.2
  have b48 := hS.c48.2
  have b49 := hS.c49.2
  have b50 := hS.c50.2
  have b51 := hS.c51.2
  have b77 := hS.c77.2
  have b78 := hS.c78.2
  have b79 := hS.c79.2
  have b82 := hS.c82.2
  refine Con.begin [some (.ref 20), some (.int s), some (.int q)] rfl rfl (Nat.le_of_ble_eq_true rfl) rfl rfl (fun X C R => ?_)
  refine g_aload_n C (pc := 0) dX3_got_0 rfl rfl ?_
  refine g_iconst C (pc := 1) (v := 0) dX3_got_1 (by decide) ?_
  refine m_puti C 0 (pc := 2) dX3_got_2 rfl q1193 rfl rfl rfl ?_
  refine g_aload_n C (pc := 5) dX3_got_5 rfl rfl ?_
  refine g_iload_n C (pc := 6) dX3_got_6 rfl ?_
  refine g_iconst C (pc := 7) (v := 1) dX3_got_7 (by decide) ?_
  refine g_callVD C (pc := 8) [.int s, .int 1] [] dX3_got_8 (c_X3_areHolders l D B K (sI S 0 0) h n s 1 ) (lw_V q1538 q1540 qs42 q87 q1541) (wd_20 _ _ _) rfl rfl ds_X3_areHolders ⟨rfl, rfl⟩ ⟨Nat.le_of_ble_eq_true rfl, Nat.le_of_ble_eq_true rfl⟩ rfl rfl ⟨Nat.le_of_ble_eq_true rfl, Nat.le_of_ble_eq_true rfl⟩ (Nat.le_of_ble_eq_true rfl) rfl ?_
  refine g_if_eq C (pc := 11) (tgt := 31) dX3_got_11 (by decide) (fun c_11 => ?_) (fun c_11 => ?_)
  · skip
    have c_11 : ¬ (areHolders S s 1) := p2i_0.mp c_11
    refine g_ldc2_w C (pc := 31) dX3_got_31 q1631 ?_
    exact g_lretD C R dX3_got_34 (Nat.le_refl _) (Nat.le_refl _) (by unfold m_got; first | (rw [if_pos (by  grind)] <;> first | rfl | (simp [mN_sI_ne, sI_2, p2i, b2i, *]; done) | grind) | (rw [if_neg (by  grind)] <;> first | rfl | (simp [mN_sI_ne, sI_2, p2i, b2i, *]; done) | grind)) (congrArg (fun z => wd K z h) (by unfold m_got; first | (rw [if_pos (by  grind)] <;> first | rfl | (simp [mN_sI_ne, sI_2, p2i, b2i, *]; done) | grind) | (rw [if_neg (by  grind)] <;> first | rfl | (simp [mN_sI_ne, sI_2, p2i, b2i, *]; done) | grind))) rfl
  · skip
    have c_11 : (areHolders S s 1) := p2i_n0.mp c_11
    refine g_aload_n C (pc := 14) dX3_got_14 rfl rfl ?_
    refine g_iload_n C (pc := 15) dX3_got_15 rfl ?_
    refine g_callVD C (pc := 16) [.int q] [] dX3_got_16 (c_X3_isKnown l D B K (sI S 0 0) h n q ) (lw_V q1607 q1609 qs47 q87 q1610) (wd_20 _ _ _) rfl rfl ds_X3_isKnown ⟨rfl, rfl⟩ ⟨Nat.le_of_ble_eq_true rfl, Nat.le_of_ble_eq_true rfl⟩ rfl rfl ⟨Nat.le_of_ble_eq_true rfl, Nat.le_of_ble_eq_true rfl⟩ (Nat.le_of_ble_eq_true rfl) rfl ?_
    refine g_if_eq C (pc := 19) (tgt := 31) dX3_got_19 (by decide) (fun c_19 => ?_) (fun c_19 => ?_)
    · skip
      have c_19 : ¬ (isIn q 0 (S.1 1)) := p2i_0.mp c_19
      refine g_ldc2_w C (pc := 31) dX3_got_31 q1631 ?_
      exact g_lretD C R dX3_got_34 (Nat.le_refl _) (Nat.le_refl _) (by unfold m_got; first | (rw [if_pos (by  grind)] <;> first | rfl | (simp [mN_sI_ne, sI_2, p2i, b2i, *]; done) | grind) | (rw [if_neg (by  grind)] <;> first | rfl | (simp [mN_sI_ne, sI_2, p2i, b2i, *]; done) | grind)) (congrArg (fun z => wd K z h) (by unfold m_got; first | (rw [if_pos (by  grind)] <;> first | rfl | (simp [mN_sI_ne, sI_2, p2i, b2i, *]; done) | grind) | (rw [if_neg (by  grind)] <;> first | rfl | (simp [mN_sI_ne, sI_2, p2i, b2i, *]; done) | grind))) rfl
    · skip
      have c_19 : (isIn q 0 (S.1 1)) := p2i_n0.mp c_19
      refine g_aload_n C (pc := 22) dX3_got_22 rfl rfl ?_
      refine g_iload_n C (pc := 23) dX3_got_23 rfl ?_
      refine g_iload_n C (pc := 24) dX3_got_24 rfl ?_
      refine g_callVD C (pc := 25) [.int s, .int q] [] dX3_got_25 (c_X3_gets l D B K (sI S 0 0) h n s q (hS.setI 0 rfl)) (lw_V q1611 q1613 qs48 q87 q1614) (wd_20 _ _ _) rfl rfl ds_X3_gets ⟨rfl, rfl⟩ ⟨Nat.le_of_ble_eq_true rfl, Nat.le_of_ble_eq_true rfl⟩ rfl rfl ⟨Nat.le_of_ble_eq_true rfl, Nat.le_of_ble_eq_true rfl⟩ (Nat.le_of_ble_eq_true rfl) rfl ?_
      refine G.nmS (fun S_25 e_S_25 => ?_)
      refine g_goto C (pc := 28) (tgt := 34) dX3_got_28 (by decide) ?_
      exact g_lretD C R dX3_got_34 (Nat.le_refl _) (Nat.le_refl _) (by unfold m_got; first | (rw [if_pos (by  grind)] <;> first | rfl | (simp [mN_sI_ne, sI_2, p2i, b2i, *]; done) | grind) | (rw [if_neg (by  grind)] <;> first | rfl | (simp [mN_sI_ne, sI_2, p2i, b2i, *]; done) | grind)) (congrArg (fun z => wd K z h) (by unfold m_got; first | (rw [if_pos (by  grind)] <;> first | rfl | (simp [mN_sI_ne, sI_2, p2i, b2i, *]; done) | grind) | (rw [if_neg (by  grind)] <;> first | rfl | (simp [mN_sI_ne, sI_2, p2i, b2i, *]; done) | grind))) rfl
theorem ds_X3_got : yX3_got.cls ≠ "java/lang/invoke/MethodHandle" ∧ yX3_got.cls ≠ "java/lang/invoke/VarHandle" ∧ (parseMethodDescriptor yX3_got.desc).map (fun d => d.parameters.length) = some 2 := by decide +kernel
set_option maxHeartbeats 4000000 in
set_option maxRecDepth 100000 in
theorem c_X3_others (l : Launch) (D : gD) (B : Nat × Nat) (K : KS) (S : MS) (h : gHp) (n : Nat) (s : Int32)  : Con l yX3_others (ws_ yX3_others cX3_others 2 (some .int)) ({ frames := 0, cells := 0, slots := 0, locals := 0 }) D B [.ref 20, .int s] (wd K S h) n (gdt (some (.int (othersV (S.1 12) s))) (wd K (S) h) n) 0 0 := by
  refine Con.begin [some (.ref 20), some (.int s)] rfl rfl (Nat.le_of_ble_eq_true rfl) rfl rfl (fun X C R => ?_)
  refine g_iconst C (pc := 0) (v := 1) dX3_others_0 (by decide) ?_
  refine g_aload_n C (pc := 1) dX3_others_1 rfl rfl ?_
  refine m_geti C 12 (pc := 2) (v := S.1 12) dX3_others_2 rfl q1205 rfl rfl ?_
  refine g_ishl C (pc := 5) dX3_others_5 ?_
  refine g_iconst C (pc := 6) (v := 1) dX3_others_6 (by decide) ?_
  refine g_isub C (pc := 7) dX3_others_7 ?_
  refine g_iload_n C (pc := 8) dX3_others_8 rfl ?_
  refine g_iconst C (pc := 9) (v := (-1)) dX3_others_9 (by decide) ?_
  refine g_ixor C (pc := 10) dX3_others_10 ?_
  refine g_iand C (pc := 11) dX3_others_11 ?_
  exact g_iretD C R dX3_others_12 (Nat.le_refl _) (Nat.le_refl _) (rfl) rfl rfl
theorem ds_X3_others : yX3_others.cls ≠ "java/lang/invoke/MethodHandle" ∧ yX3_others.cls ≠ "java/lang/invoke/VarHandle" ∧ (parseMethodDescriptor yX3_others.desc).map (fun d => d.parameters.length) = some 1 := by decide +kernel
set_option maxHeartbeats 4000000 in
set_option maxRecDepth 100000 in
theorem c_X3_allKeys (l : Launch) (D : gD) (B : Nat × Nat) (K : KS) (S : MS) (h : gHp) (n : Nat)  (hS : MOK S) : Con l yX3_allKeys (ws_ yX3_allKeys cX3_allKeys 1 (some .long)) ({ frames := 0, cells := 0, slots := 0, locals := 0 }) D B [.ref 20] (wd K S h) n (gdt (some (.long (allKeysV (mN S 13)))) (wd K (S) h) n) 0 0 := by
  have b12 := hS.c12.2
  have b13 := hS.c13.2
  have b14 := hS.c14.2
  have b16 := hS.c16.2
  have b29 := hS.c29.2
  have b30 := hS.c30.2
  have b31 := hS.c31.2
  have b48 := hS.c48.2
  have b49 := hS.c49.2
  have b50 := hS.c50.2
  have b51 := hS.c51.2
  have b77 := hS.c77.2
  have b78 := hS.c78.2
  have b79 := hS.c79.2
  have b82 := hS.c82.2
  refine Con.begin [some (.ref 20)] rfl rfl (Nat.le_of_ble_eq_true rfl) rfl rfl (fun X C R => ?_)
  refine g_aload_n C (pc := 0) dX3_allKeys_0 rfl rfl ?_
  refine m_geti C 13 (pc := 1) (v := nI (mN S 13)) dX3_allKeys_1 rfl q1206 rfl hS.c13.1 ?_
  refine g_if_ne C (pc := 4) (tgt := 11) dX3_allKeys_4 (by decide) (fun c_4 => ?_) (fun c_4 => ?_)
  · skip
    have c_4 : ¬ (mN S 13) = 0 := fun q => c_4 (by rw [q]; rfl)
    refine g_ldc2_w C (pc := 11) dX3_allKeys_11 q1631 ?_
    refine g_bipush C (pc := 14) (v := 64) dX3_allKeys_14 (by decide) ?_
    refine g_aload_n C (pc := 16) dX3_allKeys_16 rfl rfl ?_
    refine m_geti C 13 (pc := 17) (v := nI (mN S 13)) dX3_allKeys_17 rfl q1206 rfl hS.c13.1 ?_
    refine g_isub C (pc := 20) dX3_allKeys_20 ?_
    refine g_lushr C (pc := 21) (v := jlushr (-1) (64 - (nI (mN S 13)))) dX3_allKeys_21 rfl ?_
    exact g_lretD C R dX3_allKeys_22 (Nat.le_refl _) (Nat.le_refl _) (by unfold allKeysV; first | (rw [if_pos c_4]) | (rw [if_neg c_4])) rfl rfl
  · skip
    have c_4 : (mN S 13) = 0 := (nI_eq (b := 0) (by omega) (by decide)).mp c_4
    refine g_lconst C (pc := 7) (v := 0) dX3_allKeys_7 (by decide) ?_
    refine g_goto C (pc := 8) (tgt := 22) dX3_allKeys_8 (by decide) ?_
    exact g_lretD C R dX3_allKeys_22 (Nat.le_refl _) (Nat.le_refl _) (by unfold allKeysV; first | (rw [if_pos c_4]) | (rw [if_neg c_4])) rfl rfl
theorem ds_X3_allKeys : yX3_allKeys.cls ≠ "java/lang/invoke/MethodHandle" ∧ yX3_allKeys.cls ≠ "java/lang/invoke/VarHandle" ∧ (parseMethodDescriptor yX3_allKeys.desc).map (fun d => d.parameters.length) = some 0 := by decide +kernel
set_option maxHeartbeats 4000000 in
set_option maxRecDepth 100000 in
theorem c_X3_fallen (l : Launch) (D : gD) (B : Nat × Nat) (K : KS) (S : MS) (h : gHp) (n : Nat) (f : Int32) (w : Int32) (hS : MOK S) : Con l yX3_fallen (ws_ yX3_fallen cX3_fallen 3 (some .long)) ({ frames := 3, cells := 0, slots := 0, locals := 74 }) D B [.ref 20, .int f, .int w] (wd K S h) n (gdt (some (.long ((m_fallen S f w).2))) (wd K ((m_fallen S f w).1) h) n) 0 0 := by
  have b12 := hS.c12.2
  have b13 := hS.c13.2
  have b14 := hS.c14.2
  have b16 := hS.c16.2
  have b29 := hS.c29.2
  have b30 := hS.c30.2
  have b31 := hS.c31.2
  have b48 := hS.c48.2
  have b49 := hS.c49.2
  have b50 := hS.c50.2
  have b51 := hS.c51.2
  have b77 := hS.c77.2
  have b78 := hS.c78.2
  have b79 := hS.c79.2
  have b82 := hS.c82.2
  refine Con.begin [some (.ref 20), some (.int f), some (.int w)] rfl rfl (Nat.le_of_ble_eq_true rfl) rfl rfl (fun X C R => ?_)
  refine g_aload_n C (pc := 0) dX3_fallen_0 rfl rfl ?_
  refine g_iconst C (pc := 1) (v := 0) dX3_fallen_1 (by decide) ?_
  refine m_puti C 0 (pc := 2) dX3_fallen_2 rfl q1193 rfl rfl rfl ?_
  refine g_aload_n C (pc := 5) dX3_fallen_5 rfl rfl ?_
  refine g_iload_n C (pc := 6) dX3_fallen_6 rfl ?_
  refine g_callVD C (pc := 7) [.int f] [] dX3_fallen_7 (c_X3_isFall l D B K (sI S 0 0) h n f ) (lw_V q1823 q1825 qs75 q87 q1826) (wd_20 _ _ _) rfl rfl ds_X3_isFall ⟨rfl, rfl⟩ ⟨Nat.le_of_ble_eq_true rfl, Nat.le_of_ble_eq_true rfl⟩ rfl rfl ⟨Nat.le_of_ble_eq_true rfl, Nat.le_of_ble_eq_true rfl⟩ (Nat.le_of_ble_eq_true rfl) rfl ?_
  refine g_if_eq C (pc := 10) (tgt := 22) dX3_fallen_10 (by decide) (fun c_10 => ?_) (fun c_10 => ?_)
  · skip
    have c_10 : ¬ (isFall S f) := p2i_0.mp c_10
    refine g_ldc2_w C (pc := 22) dX3_fallen_22 q1631 ?_
    exact g_lretD C R dX3_fallen_25 (Nat.le_refl _) (Nat.le_refl _) (by unfold m_fallen; first | (rw [if_neg (by grind)]; show _ = (if w = 1 then _ else _); first | (rw [if_pos c_28]; done) | (rw [if_pos c_28]; rfl) | (rw [if_neg c_28]; done) | (rw [if_neg c_28]; rfl)) | (rw [if_pos (by grind)])) (congrArg (fun z => wd K z h) (by unfold m_fallen; first | (rw [if_neg (by grind)]; first | exact e_S_42 | exact e_S_67) | (rw [if_pos (by grind)]))) rfl
  · skip
    have c_10 : (isFall S f) := p2i_n0.mp c_10
    refine g_iload_n C (pc := 13) dX3_fallen_13 rfl ?_
    refine g_iconst C (pc := 14) (v := 0) dX3_fallen_14 (by decide) ?_
    refine g_iconst C (pc := 15) (v := 1) dX3_fallen_15 (by decide) ?_
    refine g_callSD C (pc := 16) [.int w, .int 0, .int 1] [] dX3_fallen_16 (c_X3_isIn l D B (wd K (sI S 0 0) h) n w 0 1 ) (lw_S q1458 q1459 q87 q1460) ds_X3_isIn ⟨rfl, rfl⟩ ⟨Nat.le_of_ble_eq_true rfl, Nat.le_of_ble_eq_true rfl⟩ rfl rfl ⟨Nat.le_of_ble_eq_true rfl, Nat.le_of_ble_eq_true rfl⟩ (Nat.le_of_ble_eq_true rfl) rfl ?_
    refine g_if_ne C (pc := 19) (tgt := 26) dX3_fallen_19 (by decide) (fun c_19 => ?_) (fun c_19 => ?_)
    · skip
      have c_19 : (isIn w 0 1) := p2i_n0.mp c_19
      refine g_iload_n C (pc := 26) dX3_fallen_26 rfl ?_
      refine g_iconst C (pc := 27) (v := 1) dX3_fallen_27 (by decide) ?_
      refine g_icmp_ne C (pc := 28) (tgt := 48) dX3_fallen_28 (by decide) (fun c_28 => ?_) (fun c_28 => ?_)
      · skip
        have c_28 : ¬ ((w) : Int32) = 1 := c_28
        refine g_aload_n C (pc := 48) dX3_fallen_48 rfl rfl ?_
        refine g_callVD C (pc := 49) [] [] dX3_fallen_49 (c_X3_allKeys l D B K (sI S 0 0) h n  (hS.setI 0 rfl)) (lw_V q1827 q1829 qs76 q87 q1830) (wd_20 _ _ _) rfl rfl ds_X3_allKeys ⟨rfl, rfl⟩ ⟨Nat.le_of_ble_eq_true rfl, Nat.le_of_ble_eq_true rfl⟩ rfl rfl ⟨Nat.le_of_ble_eq_true rfl, Nat.le_of_ble_eq_true rfl⟩ (Nat.le_of_ble_eq_true rfl) rfl ?_
        refine g_aload_n C (pc := 52) dX3_fallen_52 rfl rfl ?_
        refine g_aload_n C (pc := 53) dX3_fallen_53 rfl rfl ?_
        refine g_aload_n C (pc := 54) dX3_fallen_54 rfl rfl ?_
        refine m_geta C 80 74 (pc := 55) dX3_fallen_55 (by decide) (fun _ => rfl) q1273 rfl ?_
        refine g_iload_n C (pc := 58) dX3_fallen_58 rfl ?_
        refine m_iald C (pc := 59) (v := (S.2.1 74) ((f).toNatClampNeg)) dX3_fallen_59 (by decide) rfl (isFall.inr hS c_10) rfl ?_
        refine g_callVD C (pc := 60) [.int ((S.2.1 74) ((f).toNatClampNeg))] [.ref 20, .long (allKeysV (mN S 13))] dX3_fallen_60 (c_X3_others l D B K (sI S 0 0) h n ((S.2.1 74) ((f).toNatClampNeg)) ) (lw_V q1831 q1833 qs77 q87 q1834) (wd_20 _ _ _) rfl rfl ds_X3_others ⟨rfl, rfl⟩ ⟨Nat.le_of_ble_eq_true rfl, Nat.le_of_ble_eq_true rfl⟩ rfl rfl ⟨Nat.le_of_ble_eq_true rfl, Nat.le_of_ble_eq_true rfl⟩ (Nat.le_of_ble_eq_true rfl) rfl ?_
        refine g_aload_n C (pc := 63) dX3_fallen_63 rfl rfl ?_
        refine m_geti C 1 (pc := 64) (v := S.1 1) dX3_fallen_64 rfl q1194 rfl rfl ?_
        refine g_callVD C (pc := 67) [.int (othersV (S.1 12) ((S.2.1 74) ((f).toNatClampNeg))), .int (S.1 1)] [.long (allKeysV (mN S 13))] dX3_fallen_67 (c_X3_gets l D B K (sI S 0 0) h n (othersV (S.1 12) ((S.2.1 74) ((f).toNatClampNeg))) (S.1 1) (hS.setI 0 rfl)) (lw_V q1611 q1613 qs48 q87 q1614) (wd_20 _ _ _) rfl rfl ds_X3_gets ⟨rfl, rfl⟩ ⟨Nat.le_of_ble_eq_true rfl, Nat.le_of_ble_eq_true rfl⟩ rfl rfl ⟨Nat.le_of_ble_eq_true rfl, Nat.le_of_ble_eq_true rfl⟩ (Nat.le_of_ble_eq_true rfl) rfl ?_
        refine G.nmS (fun S_67 e_S_67 => ?_)
        refine g_ldc2_w C (pc := 70) dX3_fallen_70 q1631 ?_
        refine g_lxor C (pc := 73) dX3_fallen_73 ?_
        refine g_land C (pc := 74) dX3_fallen_74 ?_
        exact g_lretD C R dX3_fallen_75 (Nat.le_refl _) (Nat.le_refl _) (by unfold m_fallen; first | (rw [if_neg (by grind)]; show _ = (if w = 1 then _ else _); first | (rw [if_pos c_28]; done) | (rw [if_pos c_28]; rfl) | (rw [if_neg c_28]; done) | (rw [if_neg c_28]; rfl)) | (rw [if_pos (by grind)])) (congrArg (fun z => wd K z h) (by unfold m_fallen; first | (rw [if_neg (by grind)]; first | exact e_S_42 | exact e_S_67) | (rw [if_pos (by grind)]))) rfl
      · skip
        have c_28 : ((w) : Int32) = 1 := c_28
        refine g_aload_n C (pc := 31) dX3_fallen_31 rfl rfl ?_
        refine g_aload_n C (pc := 32) dX3_fallen_32 rfl rfl ?_
        refine m_geta C 80 74 (pc := 33) dX3_fallen_33 (by decide) (fun _ => rfl) q1273 rfl ?_
        refine g_iload_n C (pc := 36) dX3_fallen_36 rfl ?_
        refine m_iald C (pc := 37) (v := (S.2.1 74) ((f).toNatClampNeg)) dX3_fallen_37 (by decide) rfl (isFall.inr hS c_10) rfl ?_
        refine g_aload_n C (pc := 38) dX3_fallen_38 rfl rfl ?_
        refine m_geti C 1 (pc := 39) (v := S.1 1) dX3_fallen_39 rfl q1194 rfl rfl ?_
        refine g_callVD C (pc := 42) [.int ((S.2.1 74) ((f).toNatClampNeg)), .int (S.1 1)] [] dX3_fallen_42 (c_X3_gets l D B K (sI S 0 0) h n ((S.2.1 74) ((f).toNatClampNeg)) (S.1 1) (hS.setI 0 rfl)) (lw_V q1611 q1613 qs48 q87 q1614) (wd_20 _ _ _) rfl rfl ds_X3_gets ⟨rfl, rfl⟩ ⟨Nat.le_of_ble_eq_true rfl, Nat.le_of_ble_eq_true rfl⟩ rfl rfl ⟨Nat.le_of_ble_eq_true rfl, Nat.le_of_ble_eq_true rfl⟩ (Nat.le_of_ble_eq_true rfl) rfl ?_
        refine G.nmS (fun S_42 e_S_42 => ?_)
        refine g_goto C (pc := 45) (tgt := 75) dX3_fallen_45 (by decide) ?_
        exact g_lretD C R dX3_fallen_75 (Nat.le_refl _) (Nat.le_refl _) (by unfold m_fallen; first | (rw [if_neg (by grind)]; show _ = (if w = 1 then _ else _); first | (rw [if_pos c_28]; done) | (rw [if_pos c_28]; rfl) | (rw [if_neg c_28]; done) | (rw [if_neg c_28]; rfl)) | (rw [if_pos (by grind)])) (congrArg (fun z => wd K z h) (by unfold m_fallen; first | (rw [if_neg (by grind)]; first | exact e_S_42 | exact e_S_67) | (rw [if_pos (by grind)]))) rfl
    · skip
      have c_19 : ¬ (isIn w 0 1) := p2i_0.mp c_19
      refine g_ldc2_w C (pc := 22) dX3_fallen_22 q1631 ?_
      exact g_lretD C R dX3_fallen_25 (Nat.le_refl _) (Nat.le_refl _) (by unfold m_fallen; first | (rw [if_neg (by grind)]; show _ = (if w = 1 then _ else _); first | (rw [if_pos c_28]; done) | (rw [if_pos c_28]; rfl) | (rw [if_neg c_28]; done) | (rw [if_neg c_28]; rfl)) | (rw [if_pos (by grind)])) (congrArg (fun z => wd K z h) (by unfold m_fallen; first | (rw [if_neg (by grind)]; first | exact e_S_42 | exact e_S_67) | (rw [if_pos (by grind)]))) rfl
theorem ds_X3_fallen : yX3_fallen.cls ≠ "java/lang/invoke/MethodHandle" ∧ yX3_fallen.cls ≠ "java/lang/invoke/VarHandle" ∧ (parseMethodDescriptor yX3_fallen.desc).map (fun d => d.parameters.length) = some 2 := by decide +kernel
