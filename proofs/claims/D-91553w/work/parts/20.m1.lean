/-! MODEL, part 1: small methods -/
abbrev isIn (v a b : Int32) : Prop := ¬ v < a ∧ ¬ b < v
abbrev isHolder (S : MS) (h : Int32) : Prop := ¬ h < 0 ∧ h < (S.1 12)
abbrev isKey (S : MS) (k : Int32) : Prop := ¬ k < 0 ∧ k < (S.1 13)
abbrev areHolders (S : MS) (v a : Int32) : Prop := ¬ v < a ∧ v < 1 <<< ((S.1 12) &&& 31)
abbrev isParting (S : MS) (k : Int32) : Prop := ¬ k < 0 ∧ k < (S.1 30)
abbrev isRule (S : MS) (k : Int32) : Prop := ¬ k < 0 ∧ k < (S.1 48)
abbrev isThing (S : MS) (k : Int32) : Prop := ¬ k < 0 ∧ k < (S.1 50)
abbrev isFall (S : MS) (k : Int32) : Prop := ¬ k < 0 ∧ k < (S.1 82)
theorem rng_nat {k c : Int32} {N : Nat} (hc : c = nI N) (hN : N < 2 ^ 30) (h : ¬ k < 0 ∧ k < c) : ∃ j, j < N ∧ k = nI j := by
  obtain ⟨j, hj, e⟩ := nI_of h.1
  rw [hc, e] at h
  exact ⟨j, (nI_ltI hj (by omega)).mp h.2, e⟩
theorem rng_in {k c : Int32} {N M : Nat} (hc : c = nI N) (hN : N ≤ M) (hM : M < 2 ^ 30) (h : ¬ k < 0 ∧ k < c) : vp_in k M := by
  obtain ⟨j, hj, e⟩ := rng_nat hc (by omega) h
  rw [e]
  exact vp_in_nI (by omega) (by omega)
theorem isKey.inr {S : MS} (hS : MOK S) {k : Int32} (h : isKey S k) : vp_in k 40 := rng_in hS.c13.1 hS.c13.2 (by decide) h
theorem isHolder.inr {S : MS} (hS : MOK S) {k : Int32} (h : isHolder S k) : vp_in k 12 := rng_in hS.c12.1 hS.c12.2 (by decide) h
theorem isParting.inr {S : MS} (hS : MOK S) {k : Int32} (h : isParting S k) : vp_in k 40 := rng_in hS.c30.1 hS.c30.2 (by decide) h
theorem isRule.inr {S : MS} (hS : MOK S) {k : Int32} (h : isRule S k) : vp_in k 20 := rng_in hS.c48.1 hS.c48.2 (by decide) h
theorem isThing.inr {S : MS} (hS : MOK S) {k : Int32} (h : isThing S k) : vp_in k 40 := rng_in hS.c50.1 hS.c50.2 (by decide) h
theorem isFall.inr {S : MS} (hS : MOK S) {k : Int32} (h : isFall S k) : vp_in k 20 := rng_in hS.c82.1 hS.c82.2 (by decide) h
theorem tnc_lt (e : Int32) : e.toNatClampNeg < 2 ^ 31 := by
  have h := Int32.toInt_lt e
  show e.toInt.toNat < 2 ^ 31
  omega
theorem tnc_lt_of {e : Int32} {j : Nat} (h : j < e.toNatClampNeg) : nI j < e := by
  have h0 := tnc_lt e
  have h1 : j < e.toInt.toNat := h
  rw [Int32.lt_iff_toInt_lt, nI_toInt (by omega)]
  omega
theorem tnc_of_lt {e : Int32} {j : Nat} (hj : j < 2 ^ 31) (h : nI j < e) : j < e.toNatClampNeg := by
  rw [Int32.lt_iff_toInt_lt, nI_toInt hj] at h
  show j < e.toInt.toNat
  omega

set_option maxHeartbeats 4000000 in
set_option maxRecDepth 100000 in
theorem c_X3_thrown (l : Launch) (D : gD) (B : Nat × Nat) (K : KS) (S : MS) (h : gHp) (n : Nat)   : Con l yX3_thrown (ws_ yX3_thrown cX3_thrown 1 (some .int)) ({ frames := 0, cells := 0, slots := 0, locals := 0 }) D B [.ref 20] (wd K S h) n (gdt (some (.int ((S.1 0)))) (wd K (S) h) n) 0 0 := by
  refine Con.begin [some (.ref 20)] rfl rfl (Nat.le_of_ble_eq_true rfl) rfl rfl (fun X C R => ?_)
  refine g_aload_n C (pc := 0) dX3_thrown_0 rfl rfl ?_
  refine m_geti C 0 (pc := 1) (v := S.1 0) dX3_thrown_1 rfl q1193 rfl rfl ?_
  exact g_iretD C R dX3_thrown_4 (Nat.le_refl _) (Nat.le_refl _) (rfl) rfl rfl
theorem ds_X3_thrown : yX3_thrown.cls ≠ "java/lang/invoke/MethodHandle" ∧ yX3_thrown.cls ≠ "java/lang/invoke/VarHandle" ∧ (parseMethodDescriptor yX3_thrown.desc).map (fun d => d.parameters.length) = some 0 := by decide +kernel
set_option maxHeartbeats 4000000 in
set_option maxRecDepth 100000 in
theorem c_X3_isIn (l : Launch) (D : gD) (B : Nat × Nat) (h : gHp) (n : Nat) (v : Int32) (a : Int32) (b : Int32)  : Con l yX3_isIn (ws_ yX3_isIn cX3_isIn 3 (some .boolean)) ({ frames := 0, cells := 0, slots := 0, locals := 0 }) D B [.int v, .int a, .int b] h n (gdt (some (.int (p2i (isIn v a b)))) h n) 0 0 := by
  refine Con.begin [some (.int v), some (.int a), some (.int b)] rfl rfl (Nat.le_of_ble_eq_true rfl) rfl rfl (fun X C R => ?_)
  refine g_iload_n C (pc := 0) dX3_isIn_0 rfl ?_
  refine g_iload_n C (pc := 1) dX3_isIn_1 rfl ?_
  refine g_icmp_lt C (pc := 2) (tgt := 14) dX3_isIn_2 (by decide) (fun c_2 => ?_) (fun c_2 => ?_)
  · skip
    have c_2 : ((v) : Int32) < a := c_2
    refine g_iconst C (pc := 14) (v := 0) dX3_isIn_14 (by decide) ?_
    exact g_zretD C (p2i_nb _) R dX3_isIn_15 (Nat.le_refl _) (Nat.le_refl _) ((p2i_f (by grind)).symm) rfl rfl
  · skip
    have c_2 : ¬ ((v) : Int32) < a := c_2
    refine g_iload_n C (pc := 5) dX3_isIn_5 rfl ?_
    refine g_iload_n C (pc := 6) dX3_isIn_6 rfl ?_
    refine g_icmp_gt C (pc := 7) (tgt := 14) dX3_isIn_7 (by decide) (fun c_7 => ?_) (fun c_7 => ?_)
    · skip
      have c_7 : ((b) : Int32) < v := c_7
      refine g_iconst C (pc := 14) (v := 0) dX3_isIn_14 (by decide) ?_
      exact g_zretD C (p2i_nb _) R dX3_isIn_15 (Nat.le_refl _) (Nat.le_refl _) ((p2i_f (by grind)).symm) rfl rfl
    · skip
      have c_7 : ¬ ((b) : Int32) < v := c_7
      refine g_iconst C (pc := 10) (v := 1) dX3_isIn_10 (by decide) ?_
      refine g_goto C (pc := 11) (tgt := 15) dX3_isIn_11 (by decide) ?_
      exact g_zretD C (p2i_nb _) R dX3_isIn_15 (Nat.le_refl _) (Nat.le_refl _) ((p2i_t (by grind)).symm) rfl rfl
theorem ds_X3_isIn : yX3_isIn.cls ≠ "java/lang/invoke/MethodHandle" ∧ yX3_isIn.cls ≠ "java/lang/invoke/VarHandle" ∧ (parseMethodDescriptor yX3_isIn.desc).map (fun d => d.parameters.length) = some 3 := by decide +kernel
set_option maxHeartbeats 4000000 in
set_option maxRecDepth 100000 in
theorem c_X3_isKnown (l : Launch) (D : gD) (B : Nat × Nat) (K : KS) (S : MS) (h : gHp) (n : Nat) (q : Int32)  : Con l yX3_isKnown (ws_ yX3_isKnown cX3_isKnown 2 (some .boolean)) ({ frames := 1, cells := 0, slots := 0, locals := 22 }) D B [.ref 20, .int q] (wd K S h) n (gdt (some (.int (p2i (isIn q 0 (S.1 1))))) (wd K (S) h) n) 0 0 := by
  refine Con.begin [some (.ref 20), some (.int q)] rfl rfl (Nat.le_of_ble_eq_true rfl) rfl rfl (fun X C R => ?_)
  refine g_iload_n C (pc := 0) dX3_isKnown_0 rfl ?_
  refine g_iconst C (pc := 1) (v := 0) dX3_isKnown_1 (by decide) ?_
  refine g_aload_n C (pc := 2) dX3_isKnown_2 rfl rfl ?_
  refine m_geti C 1 (pc := 3) (v := S.1 1) dX3_isKnown_3 rfl q1194 rfl rfl ?_
  refine g_callSD C (pc := 6) [.int q, .int 0, .int (S.1 1)] [] dX3_isKnown_6 (c_X3_isIn l D B (wd K S h) n q 0 (S.1 1) ) (lw_S q1458 q1459 q87 q1460) ds_X3_isIn ⟨rfl, rfl⟩ ⟨Nat.le_of_ble_eq_true rfl, Nat.le_of_ble_eq_true rfl⟩ rfl rfl ⟨Nat.le_of_ble_eq_true rfl, Nat.le_of_ble_eq_true rfl⟩ (Nat.le_of_ble_eq_true rfl) rfl ?_
  exact g_zretD C (p2i_nb _) R dX3_isKnown_9 (Nat.le_refl _) (Nat.le_refl _) (rfl) rfl rfl
theorem ds_X3_isKnown : yX3_isKnown.cls ≠ "java/lang/invoke/MethodHandle" ∧ yX3_isKnown.cls ≠ "java/lang/invoke/VarHandle" ∧ (parseMethodDescriptor yX3_isKnown.desc).map (fun d => d.parameters.length) = some 1 := by decide +kernel
set_option maxHeartbeats 4000000 in
set_option maxRecDepth 100000 in
theorem c_X3_isDay (l : Launch) (D : gD) (B : Nat × Nat) (h : gHp) (n : Nat) (q : Int32)  : Con l yX3_isDay (ws_ yX3_isDay cX3_isDay 1 (some .boolean)) ({ frames := 1, cells := 0, slots := 0, locals := 22 }) D B [.int q] h n (gdt (some (.int (p2i (isIn q 0 2000)))) h n) 0 0 := by
  refine Con.begin [some (.int q)] rfl rfl (Nat.le_of_ble_eq_true rfl) rfl rfl (fun X C R => ?_)
  refine g_iload_n C (pc := 0) dX3_isDay_0 rfl ?_
  refine g_iconst C (pc := 1) (v := 0) dX3_isDay_1 (by decide) ?_
  refine g_sipush C (pc := 2) (v := 2000) dX3_isDay_2 (by decide) ?_
  refine g_callSD C (pc := 5) [.int q, .int 0, .int 2000] [] dX3_isDay_5 (c_X3_isIn l D B h n q 0 2000 ) (lw_S q1458 q1459 q87 q1460) ds_X3_isIn ⟨rfl, rfl⟩ ⟨Nat.le_of_ble_eq_true rfl, Nat.le_of_ble_eq_true rfl⟩ rfl rfl ⟨Nat.le_of_ble_eq_true rfl, Nat.le_of_ble_eq_true rfl⟩ (Nat.le_of_ble_eq_true rfl) rfl ?_
  exact g_zretD C (p2i_nb _) R dX3_isDay_8 (Nat.le_refl _) (Nat.le_refl _) (rfl) rfl rfl
theorem ds_X3_isDay : yX3_isDay.cls ≠ "java/lang/invoke/MethodHandle" ∧ yX3_isDay.cls ≠ "java/lang/invoke/VarHandle" ∧ (parseMethodDescriptor yX3_isDay.desc).map (fun d => d.parameters.length) = some 1 := by decide +kernel
set_option maxHeartbeats 4000000 in
set_option maxRecDepth 100000 in
theorem c_X3_isHolder (l : Launch) (D : gD) (B : Nat × Nat) (K : KS) (S : MS) (h : gHp) (n : Nat) (a : Int32)  : Con l yX3_isHolder (ws_ yX3_isHolder cX3_isHolder 2 (some .boolean)) ({ frames := 0, cells := 0, slots := 0, locals := 0 }) D B [.ref 20, .int a] (wd K S h) n (gdt (some (.int (p2i (isHolder S a)))) (wd K (S) h) n) 0 0 := by
  refine Con.begin [some (.ref 20), some (.int a)] rfl rfl (Nat.le_of_ble_eq_true rfl) rfl rfl (fun X C R => ?_)
  refine g_iload_n C (pc := 0) dX3_isHolder_0 rfl ?_
  refine g_if_lt C (pc := 1) (tgt := 16) dX3_isHolder_1 (by decide) (fun c_1 => ?_) (fun c_1 => ?_)
  · skip
    refine g_iconst C (pc := 16) (v := 0) dX3_isHolder_16 (by decide) ?_
    exact g_zretD C (p2i_nb _) R dX3_isHolder_17 (Nat.le_refl _) (Nat.le_refl _) ((p2i_f (by grind)).symm) rfl rfl
  · skip
    refine g_iload_n C (pc := 4) dX3_isHolder_4 rfl ?_
    refine g_aload_n C (pc := 5) dX3_isHolder_5 rfl rfl ?_
    refine m_geti C 12 (pc := 6) (v := S.1 12) dX3_isHolder_6 rfl q1205 rfl rfl ?_
    refine g_icmp_ge C (pc := 9) (tgt := 16) dX3_isHolder_9 (by decide) (fun c_9 => ?_) (fun c_9 => ?_)
    · skip
      have c_9 : ¬ ((a) : Int32) < (S.1 12) := c_9
      refine g_iconst C (pc := 16) (v := 0) dX3_isHolder_16 (by decide) ?_
      exact g_zretD C (p2i_nb _) R dX3_isHolder_17 (Nat.le_refl _) (Nat.le_refl _) ((p2i_f (by grind)).symm) rfl rfl
    · skip
      have c_9 : ((a) : Int32) < (S.1 12) := c_9
      refine g_iconst C (pc := 12) (v := 1) dX3_isHolder_12 (by decide) ?_
      refine g_goto C (pc := 13) (tgt := 17) dX3_isHolder_13 (by decide) ?_
      exact g_zretD C (p2i_nb _) R dX3_isHolder_17 (Nat.le_refl _) (Nat.le_refl _) ((p2i_t (by grind)).symm) rfl rfl
theorem ds_X3_isHolder : yX3_isHolder.cls ≠ "java/lang/invoke/MethodHandle" ∧ yX3_isHolder.cls ≠ "java/lang/invoke/VarHandle" ∧ (parseMethodDescriptor yX3_isHolder.desc).map (fun d => d.parameters.length) = some 1 := by decide +kernel
set_option maxHeartbeats 4000000 in
set_option maxRecDepth 100000 in
theorem c_X3_isKey (l : Launch) (D : gD) (B : Nat × Nat) (K : KS) (S : MS) (h : gHp) (n : Nat) (a : Int32)  : Con l yX3_isKey (ws_ yX3_isKey cX3_isKey 2 (some .boolean)) ({ frames := 0, cells := 0, slots := 0, locals := 0 }) D B [.ref 20, .int a] (wd K S h) n (gdt (some (.int (p2i (isKey S a)))) (wd K (S) h) n) 0 0 := by
  refine Con.begin [some (.ref 20), some (.int a)] rfl rfl (Nat.le_of_ble_eq_true rfl) rfl rfl (fun X C R => ?_)
  refine g_iload_n C (pc := 0) dX3_isKey_0 rfl ?_
  refine g_if_lt C (pc := 1) (tgt := 16) dX3_isKey_1 (by decide) (fun c_1 => ?_) (fun c_1 => ?_)
  · skip
    refine g_iconst C (pc := 16) (v := 0) dX3_isKey_16 (by decide) ?_
    exact g_zretD C (p2i_nb _) R dX3_isKey_17 (Nat.le_refl _) (Nat.le_refl _) ((p2i_f (by grind)).symm) rfl rfl
  · skip
    refine g_iload_n C (pc := 4) dX3_isKey_4 rfl ?_
    refine g_aload_n C (pc := 5) dX3_isKey_5 rfl rfl ?_
    refine m_geti C 13 (pc := 6) (v := S.1 13) dX3_isKey_6 rfl q1206 rfl rfl ?_
    refine g_icmp_ge C (pc := 9) (tgt := 16) dX3_isKey_9 (by decide) (fun c_9 => ?_) (fun c_9 => ?_)
    · skip
      have c_9 : ¬ ((a) : Int32) < (S.1 13) := c_9
      refine g_iconst C (pc := 16) (v := 0) dX3_isKey_16 (by decide) ?_
      exact g_zretD C (p2i_nb _) R dX3_isKey_17 (Nat.le_refl _) (Nat.le_refl _) ((p2i_f (by grind)).symm) rfl rfl
    · skip
      have c_9 : ((a) : Int32) < (S.1 13) := c_9
      refine g_iconst C (pc := 12) (v := 1) dX3_isKey_12 (by decide) ?_
      refine g_goto C (pc := 13) (tgt := 17) dX3_isKey_13 (by decide) ?_
      exact g_zretD C (p2i_nb _) R dX3_isKey_17 (Nat.le_refl _) (Nat.le_refl _) ((p2i_t (by grind)).symm) rfl rfl
theorem ds_X3_isKey : yX3_isKey.cls ≠ "java/lang/invoke/MethodHandle" ∧ yX3_isKey.cls ≠ "java/lang/invoke/VarHandle" ∧ (parseMethodDescriptor yX3_isKey.desc).map (fun d => d.parameters.length) = some 1 := by decide +kernel
set_option maxHeartbeats 4000000 in
set_option maxRecDepth 100000 in
theorem c_X3_isParting (l : Launch) (D : gD) (B : Nat × Nat) (K : KS) (S : MS) (h : gHp) (n : Nat) (a : Int32)  : Con l yX3_isParting (ws_ yX3_isParting cX3_isParting 2 (some .boolean)) ({ frames := 0, cells := 0, slots := 0, locals := 0 }) D B [.ref 20, .int a] (wd K S h) n (gdt (some (.int (p2i (isParting S a)))) (wd K (S) h) n) 0 0 := by
  refine Con.begin [some (.ref 20), some (.int a)] rfl rfl (Nat.le_of_ble_eq_true rfl) rfl rfl (fun X C R => ?_)
  refine g_iload_n C (pc := 0) dX3_isParting_0 rfl ?_
  refine g_if_lt C (pc := 1) (tgt := 16) dX3_isParting_1 (by decide) (fun c_1 => ?_) (fun c_1 => ?_)
  · skip
    refine g_iconst C (pc := 16) (v := 0) dX3_isParting_16 (by decide) ?_
    exact g_zretD C (p2i_nb _) R dX3_isParting_17 (Nat.le_refl _) (Nat.le_refl _) ((p2i_f (by grind)).symm) rfl rfl
  · skip
    refine g_iload_n C (pc := 4) dX3_isParting_4 rfl ?_
    refine g_aload_n C (pc := 5) dX3_isParting_5 rfl rfl ?_
    refine m_geti C 30 (pc := 6) (v := S.1 30) dX3_isParting_6 rfl q1223 rfl rfl ?_
    refine g_icmp_ge C (pc := 9) (tgt := 16) dX3_isParting_9 (by decide) (fun c_9 => ?_) (fun c_9 => ?_)
    · skip
      have c_9 : ¬ ((a) : Int32) < (S.1 30) := c_9
      refine g_iconst C (pc := 16) (v := 0) dX3_isParting_16 (by decide) ?_
      exact g_zretD C (p2i_nb _) R dX3_isParting_17 (Nat.le_refl _) (Nat.le_refl _) ((p2i_f (by grind)).symm) rfl rfl
    · skip
      have c_9 : ((a) : Int32) < (S.1 30) := c_9
      refine g_iconst C (pc := 12) (v := 1) dX3_isParting_12 (by decide) ?_
      refine g_goto C (pc := 13) (tgt := 17) dX3_isParting_13 (by decide) ?_
      exact g_zretD C (p2i_nb _) R dX3_isParting_17 (Nat.le_refl _) (Nat.le_refl _) ((p2i_t (by grind)).symm) rfl rfl
theorem ds_X3_isParting : yX3_isParting.cls ≠ "java/lang/invoke/MethodHandle" ∧ yX3_isParting.cls ≠ "java/lang/invoke/VarHandle" ∧ (parseMethodDescriptor yX3_isParting.desc).map (fun d => d.parameters.length) = some 1 := by decide +kernel
set_option maxHeartbeats 4000000 in
set_option maxRecDepth 100000 in
theorem c_X3_isRule (l : Launch) (D : gD) (B : Nat × Nat) (K : KS) (S : MS) (h : gHp) (n : Nat) (a : Int32)  : Con l yX3_isRule (ws_ yX3_isRule cX3_isRule 2 (some .boolean)) ({ frames := 0, cells := 0, slots := 0, locals := 0 }) D B [.ref 20, .int a] (wd K S h) n (gdt (some (.int (p2i (isRule S a)))) (wd K (S) h) n) 0 0 := by
  refine Con.begin [some (.ref 20), some (.int a)] rfl rfl (Nat.le_of_ble_eq_true rfl) rfl rfl (fun X C R => ?_)
  refine g_iload_n C (pc := 0) dX3_isRule_0 rfl ?_
  refine g_if_lt C (pc := 1) (tgt := 16) dX3_isRule_1 (by decide) (fun c_1 => ?_) (fun c_1 => ?_)
  · skip
    refine g_iconst C (pc := 16) (v := 0) dX3_isRule_16 (by decide) ?_
    exact g_zretD C (p2i_nb _) R dX3_isRule_17 (Nat.le_refl _) (Nat.le_refl _) ((p2i_f (by grind)).symm) rfl rfl
  · skip
    refine g_iload_n C (pc := 4) dX3_isRule_4 rfl ?_
    refine g_aload_n C (pc := 5) dX3_isRule_5 rfl rfl ?_
    refine m_geti C 48 (pc := 6) (v := S.1 48) dX3_isRule_6 rfl q1241 rfl rfl ?_
    refine g_icmp_ge C (pc := 9) (tgt := 16) dX3_isRule_9 (by decide) (fun c_9 => ?_) (fun c_9 => ?_)
    · skip
      have c_9 : ¬ ((a) : Int32) < (S.1 48) := c_9
      refine g_iconst C (pc := 16) (v := 0) dX3_isRule_16 (by decide) ?_
      exact g_zretD C (p2i_nb _) R dX3_isRule_17 (Nat.le_refl _) (Nat.le_refl _) ((p2i_f (by grind)).symm) rfl rfl
    · skip
      have c_9 : ((a) : Int32) < (S.1 48) := c_9
      refine g_iconst C (pc := 12) (v := 1) dX3_isRule_12 (by decide) ?_
      refine g_goto C (pc := 13) (tgt := 17) dX3_isRule_13 (by decide) ?_
      exact g_zretD C (p2i_nb _) R dX3_isRule_17 (Nat.le_refl _) (Nat.le_refl _) ((p2i_t (by grind)).symm) rfl rfl
theorem ds_X3_isRule : yX3_isRule.cls ≠ "java/lang/invoke/MethodHandle" ∧ yX3_isRule.cls ≠ "java/lang/invoke/VarHandle" ∧ (parseMethodDescriptor yX3_isRule.desc).map (fun d => d.parameters.length) = some 1 := by decide +kernel
set_option maxHeartbeats 4000000 in
set_option maxRecDepth 100000 in
theorem c_X3_isThing (l : Launch) (D : gD) (B : Nat × Nat) (K : KS) (S : MS) (h : gHp) (n : Nat) (a : Int32)  : Con l yX3_isThing (ws_ yX3_isThing cX3_isThing 2 (some .boolean)) ({ frames := 0, cells := 0, slots := 0, locals := 0 }) D B [.ref 20, .int a] (wd K S h) n (gdt (some (.int (p2i (isThing S a)))) (wd K (S) h) n) 0 0 := by
  refine Con.begin [some (.ref 20), some (.int a)] rfl rfl (Nat.le_of_ble_eq_true rfl) rfl rfl (fun X C R => ?_)
  refine g_iload_n C (pc := 0) dX3_isThing_0 rfl ?_
  refine g_if_lt C (pc := 1) (tgt := 16) dX3_isThing_1 (by decide) (fun c_1 => ?_) (fun c_1 => ?_)
  · skip
    refine g_iconst C (pc := 16) (v := 0) dX3_isThing_16 (by decide) ?_
    exact g_zretD C (p2i_nb _) R dX3_isThing_17 (Nat.le_refl _) (Nat.le_refl _) ((p2i_f (by grind)).symm) rfl rfl
  · skip
    refine g_iload_n C (pc := 4) dX3_isThing_4 rfl ?_
    refine g_aload_n C (pc := 5) dX3_isThing_5 rfl rfl ?_
    refine m_geti C 50 (pc := 6) (v := S.1 50) dX3_isThing_6 rfl q1243 rfl rfl ?_
    refine g_icmp_ge C (pc := 9) (tgt := 16) dX3_isThing_9 (by decide) (fun c_9 => ?_) (fun c_9 => ?_)
    · skip
      have c_9 : ¬ ((a) : Int32) < (S.1 50) := c_9
      refine g_iconst C (pc := 16) (v := 0) dX3_isThing_16 (by decide) ?_
      exact g_zretD C (p2i_nb _) R dX3_isThing_17 (Nat.le_refl _) (Nat.le_refl _) ((p2i_f (by grind)).symm) rfl rfl
    · skip
      have c_9 : ((a) : Int32) < (S.1 50) := c_9
      refine g_iconst C (pc := 12) (v := 1) dX3_isThing_12 (by decide) ?_
      refine g_goto C (pc := 13) (tgt := 17) dX3_isThing_13 (by decide) ?_
      exact g_zretD C (p2i_nb _) R dX3_isThing_17 (Nat.le_refl _) (Nat.le_refl _) ((p2i_t (by grind)).symm) rfl rfl
theorem ds_X3_isThing : yX3_isThing.cls ≠ "java/lang/invoke/MethodHandle" ∧ yX3_isThing.cls ≠ "java/lang/invoke/VarHandle" ∧ (parseMethodDescriptor yX3_isThing.desc).map (fun d => d.parameters.length) = some 1 := by decide +kernel
set_option maxHeartbeats 4000000 in
set_option maxRecDepth 100000 in
theorem c_X3_isFall (l : Launch) (D : gD) (B : Nat × Nat) (K : KS) (S : MS) (h : gHp) (n : Nat) (a : Int32)  : Con l yX3_isFall (ws_ yX3_isFall cX3_isFall 2 (some .boolean)) ({ frames := 0, cells := 0, slots := 0, locals := 0 }) D B [.ref 20, .int a] (wd K S h) n (gdt (some (.int (p2i (isFall S a)))) (wd K (S) h) n) 0 0 := by
  refine Con.begin [some (.ref 20), some (.int a)] rfl rfl (Nat.le_of_ble_eq_true rfl) rfl rfl (fun X C R => ?_)
  refine g_iload_n C (pc := 0) dX3_isFall_0 rfl ?_
  refine g_if_lt C (pc := 1) (tgt := 16) dX3_isFall_1 (by decide) (fun c_1 => ?_) (fun c_1 => ?_)
  · skip
    refine g_iconst C (pc := 16) (v := 0) dX3_isFall_16 (by decide) ?_
    exact g_zretD C (p2i_nb _) R dX3_isFall_17 (Nat.le_refl _) (Nat.le_refl _) ((p2i_f (by grind)).symm) rfl rfl
  · skip
    refine g_iload_n C (pc := 4) dX3_isFall_4 rfl ?_
    refine g_aload_n C (pc := 5) dX3_isFall_5 rfl rfl ?_
    refine m_geti C 82 (pc := 6) (v := S.1 82) dX3_isFall_6 rfl q1275 rfl rfl ?_
    refine g_icmp_ge C (pc := 9) (tgt := 16) dX3_isFall_9 (by decide) (fun c_9 => ?_) (fun c_9 => ?_)
    · skip
      have c_9 : ¬ ((a) : Int32) < (S.1 82) := c_9
      refine g_iconst C (pc := 16) (v := 0) dX3_isFall_16 (by decide) ?_
      exact g_zretD C (p2i_nb _) R dX3_isFall_17 (Nat.le_refl _) (Nat.le_refl _) ((p2i_f (by grind)).symm) rfl rfl
    · skip
      have c_9 : ((a) : Int32) < (S.1 82) := c_9
      refine g_iconst C (pc := 12) (v := 1) dX3_isFall_12 (by decide) ?_
      refine g_goto C (pc := 13) (tgt := 17) dX3_isFall_13 (by decide) ?_
      exact g_zretD C (p2i_nb _) R dX3_isFall_17 (Nat.le_refl _) (Nat.le_refl _) ((p2i_t (by grind)).symm) rfl rfl
theorem ds_X3_isFall : yX3_isFall.cls ≠ "java/lang/invoke/MethodHandle" ∧ yX3_isFall.cls ≠ "java/lang/invoke/VarHandle" ∧ (parseMethodDescriptor yX3_isFall.desc).map (fun d => d.parameters.length) = some 1 := by decide +kernel
set_option maxHeartbeats 4000000 in
set_option maxRecDepth 100000 in
theorem c_X3_areHolders (l : Launch) (D : gD) (B : Nat × Nat) (K : KS) (S : MS) (h : gHp) (n : Nat) (a : Int32) (b : Int32)  : Con l yX3_areHolders (ws_ yX3_areHolders cX3_areHolders 3 (some .boolean)) ({ frames := 0, cells := 0, slots := 0, locals := 0 }) D B [.ref 20, .int a, .int b] (wd K S h) n (gdt (some (.int (p2i (areHolders S a b)))) (wd K (S) h) n) 0 0 := by
  refine Con.begin [some (.ref 20), some (.int a), some (.int b)] rfl rfl (Nat.le_of_ble_eq_true rfl) rfl rfl (fun X C R => ?_)
  refine g_iload_n C (pc := 0) dX3_areHolders_0 rfl ?_
  refine g_iload_n C (pc := 1) dX3_areHolders_1 rfl ?_
  refine g_icmp_lt C (pc := 2) (tgt := 19) dX3_areHolders_2 (by decide) (fun c_2 => ?_) (fun c_2 => ?_)
  · skip
    have c_2 : ((a) : Int32) < b := c_2
    refine g_iconst C (pc := 19) (v := 0) dX3_areHolders_19 (by decide) ?_
    exact g_zretD C (p2i_nb _) R dX3_areHolders_20 (Nat.le_refl _) (Nat.le_refl _) ((p2i_f (by grind)).symm) rfl rfl
  · skip
    have c_2 : ¬ ((a) : Int32) < b := c_2
    refine g_iload_n C (pc := 5) dX3_areHolders_5 rfl ?_
    refine g_iconst C (pc := 6) (v := 1) dX3_areHolders_6 (by decide) ?_
    refine g_aload_n C (pc := 7) dX3_areHolders_7 rfl rfl ?_
    refine m_geti C 12 (pc := 8) (v := S.1 12) dX3_areHolders_8 rfl q1205 rfl rfl ?_
    refine g_ishl C (pc := 11) dX3_areHolders_11 ?_
    refine g_icmp_ge C (pc := 12) (tgt := 19) dX3_areHolders_12 (by decide) (fun c_12 => ?_) (fun c_12 => ?_)
    · skip
      have c_12 : ¬ ((a) : Int32) < (1 <<< ((S.1 12) &&& 31)) := c_12
      refine g_iconst C (pc := 19) (v := 0) dX3_areHolders_19 (by decide) ?_
      exact g_zretD C (p2i_nb _) R dX3_areHolders_20 (Nat.le_refl _) (Nat.le_refl _) ((p2i_f (by grind)).symm) rfl rfl
    · skip
      have c_12 : ((a) : Int32) < (1 <<< ((S.1 12) &&& 31)) := c_12
      refine g_iconst C (pc := 15) (v := 1) dX3_areHolders_15 (by decide) ?_
      refine g_goto C (pc := 16) (tgt := 20) dX3_areHolders_16 (by decide) ?_
      exact g_zretD C (p2i_nb _) R dX3_areHolders_20 (Nat.le_refl _) (Nat.le_refl _) ((p2i_t (by grind)).symm) rfl rfl
theorem ds_X3_areHolders : yX3_areHolders.cls ≠ "java/lang/invoke/MethodHandle" ∧ yX3_areHolders.cls ≠ "java/lang/invoke/VarHandle" ∧ (parseMethodDescriptor yX3_areHolders.desc).map (fun d => d.parameters.length) = some 2 := by decide +kernel
def m_days (S : MS) (v : Int32) : MS × Int32 := if isIn v 0 1000 ∧ ¬ 2000 < (S.1 1) + v then (sI (sI S 0 0) 1 ((S.1 1) + v), (S.1 1) + v) else ((sI S 0 0), -1)
def m_holder (S : MS) : MS × Int32 := if (mN S 12) = 12 then ((sI S 0 0), -1) else (sI (sI S 0 0) 12 (nI ((mN S 12) + 1)), nI (mN S 12))
def m_add (S : MS) (a b c : Int32) : MS := sI (sE (sE (sE (sE (sE S 21 (mN S 13) a) 22 (mN S 13) b) 23 (mN S 13) c) 24 (mN S 13) (S.1 1)) 25 (mN S 13) (-1)) 13 (nI ((mN S 13) + 1))
def m_key (S : MS) (a b : Int32) : MS × Int32 := if (mN S 13) < 40 ∧ isIn a 1 1018 then (m_add (sI S 0 0) (if b = 0 then 0 else 1) a (-1), nI (mN S 13)) else ((sI S 0 0), -1)
/-- the byte of v in place j, from the left -/
def shj (j : Nat) : Int32 := 24 - 8 * nI j
def bytz (v : Int32) (j : Nat) : Int32 := (v >>> (shj j &&& 31)) &&& 255
def cntB (v : Int32) : Nat → Nat
  | 0 => 0
  | j + 1 => cntB v j + (if bytz v j = 0 then 0 else 1)
theorem cntB_le (v : Int32) (j : Nat) : cntB v j ≤ j := by
  induction j with
  | zero => exact Nat.le_refl 0
  | succ j ih => simp only [cntB]; split <;> omega
theorem cntB_mono (v : Int32) {i j : Nat} (h : i ≤ j) : cntB v i ≤ cntB v j := by
  induction j with
  | zero => rw [show i = 0 by omega]; exact Nat.le_refl _
  | succ j ih =>
    rcases Nat.lt_or_ge i (j + 1) with q | q
    · exact Nat.le_trans (ih (by omega)) (by simp only [cntB]; split <;> omega)
    · rw [show i = j + 1 by omega]; exact Nat.le_refl _
theorem shj_s {j : Nat} (h : j ≤ 3) : shj j + (-8) = shj (j + 1) ∧ ¬ shj j < 0 := by
  rcases (show j = 0 ∨ j = 1 ∨ j = 2 ∨ j = 3 by omega) with rfl | rfl | rfl | rfl <;> decide
theorem shj_4 : shj 4 < 0 := by decide
def putS (S : MS) (v : Int32) : Nat → MS
  | 0 => S
  | j + 1 => if bytz v j = 0 then putS S v j else sI (sE (putS S v j) 31 (mN (putS S v j) 16) (n8 (n8 (v >>> (shj j &&& 31))))) 16 (nI (mN (putS S v j) 16 + 1))
theorem putS_len (S : MS) (v : Int32) (h : (S.1 16) = nI (mN S 16)) (hb : (mN S 16) + cntB v 4 < 2 ^ 30) : ∀ j, j ≤ 4 → (putS S v j).1 16 = nI ((mN S 16) + cntB v j) ∧ mN (putS S v j) 16 = (mN S 16) + cntB v j := by
  intro j
  induction j with
  | zero => exact fun _ => ⟨h, rfl⟩
  | succ j ih =>
    intro hj
    obtain ⟨h1, h2⟩ := ih (by omega)
    have hm := cntB_mono v hj
    generalize cntB v 4 = c4 at hb hm
    simp only [putS, cntB] at hm ⊢
    split
    · exact ⟨h1, h2⟩
    · rename_i hz
      rw [if_neg hz] at hm
      rw [h2]
      refine ⟨sI_same _ _ _, ?_⟩
      rw [mN_sI_eq _ _ _ (by omega)]
      omega
def feedS (S : MS) (a b c e f : Int32) : MS := putS (putS (putS (putS (putS S a 4) b 4) c 4) e 4) f 4
def cnt5 (a b c e f : Int32) : Nat := cntB a 4 + cntB b 4 + cntB c 4 + cntB e 4 + cntB f 4
def m_feed (S : MS) (a b c e f : Int32) : MS × Int32 := if 160 < (mN S 16) + cntB a 4 + cntB b 4 + cntB c 4 + cntB e 4 + cntB f 4 then ((sI S 0 0), -1) else (feedS (sI S 0 0) a b c e f, (feedS (sI S 0 0) a b c e f).1 16)
def m_end (S : MS) (v : Int32) : MS × Bool := if v < 0 ∨ (S.1 16) < v then ((sI S 0 0), false) else (sI (sI S 0 0) 16 v, true)
/-- the text's hash -/
def hashT (t : Nat → Int32) : Nat → Int32
  | 0 => 0
  | j + 1 => jrem (131 * hashT t j + (n8 (t j) &&& 255)) 1019
def m_make (S : MS) (r : Int32) : MS × Int32 := if (mN S 13) = 40 ∨ ¬ isKey S r ∨ ¬ (S.2.1 21) r.toNatClampNeg = 1 ∨ ¬ isIn (nI (mN S 16)) 1 40 then ((sI S 0 0), -1) else (m_add (sI (sI S 0 0) 16 0) 2 (jrem (37 * (S.2.1 22) r.toNatClampNeg + hashT (S.2.1 31) (mN S 16)) 1018 + 1) r, nI (mN S 13))
def pwr (b m : Int32) : Nat → Int32
  | 0 => 1
  | j + 1 => jrem (pwr b m j * b) m
def four (v : Int32) : Int32 := pwr 4 2039 v.toNatClampNeg
def m_open (S : MS) (k : Int32) : MS × Int32 := if isKey S k then ((sI S 0 0), four ((S.2.1 22) k.toNatClampNeg)) else (sI S 0 1, 0)
def hasB (A : Nat → Nat → Int32) (a b c : Int32) : Nat → Bool
  | 0 => false
  | i + 1 => if A 26 i = a ∧ A 27 i = b ∧ ¬ c < A 28 i then decide (¬ A 29 i = 0) else hasB A a b c i
abbrev hasN (S : MS) (a b c : Int32) : Bool := hasB S.2.1 a b c (mN S 14)
def m_hands (S : MS) (a b g : Int32) : MS × Bool := if ¬ isHolder S a ∨ ¬ isKey S b ∨ b2i (hasN S a b (S.1 1)) = g then ((sI S 0 0), false) else (sI (sE (sE (sE (sE (sI S 0 0) 26 (mN S 14) a) 27 (mN S 14) b) 28 (mN S 14) (S.1 1)) 29 (mN S 14) g) 14 (nI ((mN S 14) + 1)), true)

set_option maxHeartbeats 4000000 in
set_option maxRecDepth 100000 in
theorem c_X3_days (l : Launch) (D : gD) (B : Nat × Nat) (K : KS) (S : MS) (h : gHp) (n : Nat) (v : Int32)  : Con l yX3_days (ws_ yX3_days cX3_days 2 (some .int)) ({ frames := 1, cells := 0, slots := 0, locals := 22 }) D B [.ref 20, .int v] (wd K S h) n (gdt (some (.int ((m_days S v).2))) (wd K ((m_days S v).1) h) n) 0 0 := by
  refine Con.begin [some (.ref 20), some (.int v)] rfl rfl (Nat.le_of_ble_eq_true rfl) rfl rfl (fun X C R => ?_)
  refine g_aload_n C (pc := 0) dX3_days_0 rfl rfl ?_
  refine g_iconst C (pc := 1) (v := 0) dX3_days_1 (by decide) ?_
  refine m_puti C 0 (pc := 2) dX3_days_2 rfl q1193 rfl rfl rfl ?_
  refine g_iload_n C (pc := 5) dX3_days_5 rfl ?_
  refine g_iconst C (pc := 6) (v := 0) dX3_days_6 (by decide) ?_
  refine g_sipush C (pc := 7) (v := 1000) dX3_days_7 (by decide) ?_
  refine g_callSD C (pc := 10) [.int v, .int 0, .int 1000] [] dX3_days_10 (c_X3_isIn l D B (wd K (sI S 0 0) h) n v 0 1000 ) (lw_S q1458 q1459 q87 q1460) ds_X3_isIn ⟨rfl, rfl⟩ ⟨Nat.le_of_ble_eq_true rfl, Nat.le_of_ble_eq_true rfl⟩ rfl rfl ⟨Nat.le_of_ble_eq_true rfl, Nat.le_of_ble_eq_true rfl⟩ (Nat.le_of_ble_eq_true rfl) rfl ?_
  refine g_if_eq C (pc := 13) (tgt := 28) dX3_days_13 (by decide) (fun c_13 => ?_) (fun c_13 => ?_)
  · skip
    have c_13 : ¬ (isIn v 0 1000) := p2i_0.mp c_13
    refine g_iconst C (pc := 28) (v := (-1)) dX3_days_28 (by decide) ?_
    exact g_iretD C R dX3_days_29 (Nat.le_refl _) (Nat.le_refl _) (by unfold m_days; first | (rw [if_pos (by  grind)] <;> first | rfl | (simp [mN_sI_ne, sI_2, p2i, b2i, *]; done) | grind) | (rw [if_neg (by  grind)] <;> first | rfl | (simp [mN_sI_ne, sI_2, p2i, b2i, *]; done) | grind)) (congrArg (fun z => wd K z h) (by unfold m_days; first | (rw [if_pos (by  grind)] <;> first | rfl | (simp [mN_sI_ne, sI_2, p2i, b2i, *]; done) | grind) | (rw [if_neg (by  grind)] <;> first | rfl | (simp [mN_sI_ne, sI_2, p2i, b2i, *]; done) | grind))) rfl
  · skip
    have c_13 : (isIn v 0 1000) := p2i_n0.mp c_13
    refine g_aload_n C (pc := 16) dX3_days_16 rfl rfl ?_
    refine m_geti C 1 (pc := 17) (v := S.1 1) dX3_days_17 rfl q1194 rfl rfl ?_
    refine g_iload_n C (pc := 20) dX3_days_20 rfl ?_
    refine g_iadd C (pc := 21) dX3_days_21 ?_
    refine g_sipush C (pc := 22) (v := 2000) dX3_days_22 (by decide) ?_
    refine g_icmp_le C (pc := 25) (tgt := 30) dX3_days_25 (by decide) (fun c_25 => ?_) (fun c_25 => ?_)
    · skip
      have c_25 : ¬ ((2000) : Int32) < ((S.1 1) + v) := c_25
      refine g_aload_n C (pc := 30) dX3_days_30 rfl rfl ?_
      refine g_dup C (pc := 31) dX3_days_31 rfl ?_
      refine m_geti C 1 (pc := 32) (v := S.1 1) dX3_days_32 rfl q1194 rfl rfl ?_
      refine g_iload_n C (pc := 35) dX3_days_35 rfl ?_
      refine g_iadd C (pc := 36) dX3_days_36 ?_
      refine G.topi (fun x_37 e_x_37 => ?_)
      have e_x_37 : x_37 = (S.1 1) + v := e_x_37
      refine m_puti C 1 (pc := 37) dX3_days_37 rfl q1194 rfl rfl rfl ?_
      refine g_aload_n C (pc := 40) dX3_days_40 rfl rfl ?_
      refine m_geti C 1 (pc := 41) (v := x_37) dX3_days_41 rfl q1194 rfl rfl ?_
      exact g_iretD C R dX3_days_44 (Nat.le_refl _) (Nat.le_refl _) (by unfold m_days; first | (rw [if_pos (by  grind)] <;> first | rfl | (simp [mN_sI_ne, sI_2, p2i, b2i, *]; done) | grind) | (rw [if_neg (by  grind)] <;> first | rfl | (simp [mN_sI_ne, sI_2, p2i, b2i, *]; done) | grind)) (congrArg (fun z => wd K z h) (by unfold m_days; first | (rw [if_pos (by  grind)] <;> first | rfl | (simp [mN_sI_ne, sI_2, p2i, b2i, *]; done) | grind) | (rw [if_neg (by  grind)] <;> first | rfl | (simp [mN_sI_ne, sI_2, p2i, b2i, *]; done) | grind))) rfl
    · skip
      have c_25 : ((2000) : Int32) < ((S.1 1) + v) := c_25
      refine g_iconst C (pc := 28) (v := (-1)) dX3_days_28 (by decide) ?_
      exact g_iretD C R dX3_days_29 (Nat.le_refl _) (Nat.le_refl _) (by unfold m_days; first | (rw [if_pos (by  grind)] <;> first | rfl | (simp [mN_sI_ne, sI_2, p2i, b2i, *]; done) | grind) | (rw [if_neg (by  grind)] <;> first | rfl | (simp [mN_sI_ne, sI_2, p2i, b2i, *]; done) | grind)) (congrArg (fun z => wd K z h) (by unfold m_days; first | (rw [if_pos (by  grind)] <;> first | rfl | (simp [mN_sI_ne, sI_2, p2i, b2i, *]; done) | grind) | (rw [if_neg (by  grind)] <;> first | rfl | (simp [mN_sI_ne, sI_2, p2i, b2i, *]; done) | grind))) rfl
theorem ds_X3_days : yX3_days.cls ≠ "java/lang/invoke/MethodHandle" ∧ yX3_days.cls ≠ "java/lang/invoke/VarHandle" ∧ (parseMethodDescriptor yX3_days.desc).map (fun d => d.parameters.length) = some 1 := by decide +kernel
set_option maxHeartbeats 4000000 in
set_option maxRecDepth 100000 in
theorem c_X3_holder (l : Launch) (D : gD) (B : Nat × Nat) (K : KS) (S : MS) (h : gHp) (n : Nat)  (hS : MOK S) : Con l yX3_holder (ws_ yX3_holder cX3_holder 1 (some .int)) ({ frames := 0, cells := 0, slots := 0, locals := 0 }) D B [.ref 20] (wd K S h) n (gdt (some (.int ((m_holder S).2))) (wd K ((m_holder S).1) h) n) 0 0 := by
  have b12 := hS.c12.2
  have b13 := hS.c13.2
  have b14 := hS.c14.2
  have b16 := hS.c16.2
  have b29 := hS.c29.2
  have b30 := hS.c30.2
  have b31 := hS.c31.2
  have b48 := hS.c48.2
  have b49 := hS.c49.2
  have b50 := hS.c50.2
  have b51 := hS.c51.2
  have b77 := hS.c77.2
  have b78 := hS.c78.2
  have b79 := hS.c79.2
  have b82 := hS.c82.2
  refine Con.begin [some (.ref 20)] rfl rfl (Nat.le_of_ble_eq_true rfl) rfl rfl (fun X C R => ?_)
  refine g_aload_n C (pc := 0) dX3_holder_0 rfl rfl ?_
  refine g_iconst C (pc := 1) (v := 0) dX3_holder_1 (by decide) ?_
  refine m_puti C 0 (pc := 2) dX3_holder_2 rfl q1193 rfl rfl rfl ?_
  refine g_aload_n C (pc := 5) dX3_holder_5 rfl rfl ?_
  refine m_geti C 12 (pc := 6) (v := nI (mN S 12)) dX3_holder_6 rfl q1205 rfl hS.c12.1 ?_
  refine g_bipush C (pc := 9) (v := 12) dX3_holder_9 (by decide) ?_
  refine g_icmp_ne C (pc := 11) (tgt := 16) dX3_holder_11 (by decide) (fun c_11 => ?_) (fun c_11 => ?_)
  · skip
    have c_11 : ¬ (mN S 12) = 12 := fun q => c_11 ((nI_eq (a := (mN S 12)) (b := 12) (by omega) (by omega)).mpr q)
    refine g_aload_n C (pc := 16) dX3_holder_16 rfl rfl ?_
    refine g_dup C (pc := 17) dX3_holder_17 rfl ?_
    refine m_geti C 12 (pc := 18) (v := nI (mN S 12)) dX3_holder_18 rfl q1205 rfl hS.c12.1 ?_
    refine g_iconst C (pc := 21) (v := 1) dX3_holder_21 (by decide) ?_
    refine g_iadd C (pc := 22) dX3_holder_22 ?_
    refine G.topc (nI_1 _) ?_
    refine m_puti C 12 (pc := 23) dX3_holder_23 rfl q1205 rfl rfl rfl ?_
    refine g_aload_n C (pc := 26) dX3_holder_26 rfl rfl ?_
    refine m_geti C 12 (pc := 27) (v := nI ((mN S 12) + 1)) dX3_holder_27 rfl q1205 rfl rfl ?_
    refine g_iconst C (pc := 30) (v := 1) dX3_holder_30 (by decide) ?_
    refine g_isub C (pc := 31) dX3_holder_31 ?_
    refine G.topc (nI_pred _) ?_
    exact g_iretD C R dX3_holder_32 (Nat.le_refl _) (Nat.le_refl _) (by unfold m_holder; first | (rw [if_pos (by  grind)] <;> first | rfl | (simp [mN_sI_ne, sI_2, p2i, b2i, *]; done) | grind) | (rw [if_neg (by  grind)] <;> first | rfl | (simp [mN_sI_ne, sI_2, p2i, b2i, *]; done) | grind)) (congrArg (fun z => wd K z h) (by unfold m_holder; first | (rw [if_pos (by  grind)] <;> first | rfl | (simp [mN_sI_ne, sI_2, p2i, b2i, *]; done) | grind) | (rw [if_neg (by  grind)] <;> first | rfl | (simp [mN_sI_ne, sI_2, p2i, b2i, *]; done) | grind))) rfl
  · skip
    have c_11 : (mN S 12) = 12 := (nI_eq (a := (mN S 12)) (b := 12) (by omega) (by omega)).mp c_11
    refine g_iconst C (pc := 14) (v := (-1)) dX3_holder_14 (by decide) ?_
    exact g_iretD C R dX3_holder_15 (Nat.le_refl _) (Nat.le_refl _) (by unfold m_holder; first | (rw [if_pos (by  grind)] <;> first | rfl | (simp [mN_sI_ne, sI_2, p2i, b2i, *]; done) | grind) | (rw [if_neg (by  grind)] <;> first | rfl | (simp [mN_sI_ne, sI_2, p2i, b2i, *]; done) | grind)) (congrArg (fun z => wd K z h) (by unfold m_holder; first | (rw [if_pos (by  grind)] <;> first | rfl | (simp [mN_sI_ne, sI_2, p2i, b2i, *]; done) | grind) | (rw [if_neg (by  grind)] <;> first | rfl | (simp [mN_sI_ne, sI_2, p2i, b2i, *]; done) | grind))) rfl
theorem ds_X3_holder : yX3_holder.cls ≠ "java/lang/invoke/MethodHandle" ∧ yX3_holder.cls ≠ "java/lang/invoke/VarHandle" ∧ (parseMethodDescriptor yX3_holder.desc).map (fun d => d.parameters.length) = some 0 := by decide +kernel
set_option maxHeartbeats 4000000 in
set_option maxRecDepth 100000 in
theorem c_X3_add (l : Launch) (D : gD) (B : Nat × Nat) (K : KS) (S : MS) (h : gHp) (n : Nat) (a : Int32) (b : Int32) (c : Int32) (hS : MOK S) (hk : (mN S 13) < 40) : Con l yX3_add (ws_ yX3_add cX3_add 4 (some .int)) ({ frames := 0, cells := 0, slots := 0, locals := 0 }) D B [.ref 20, .int a, .int b, .int c] (wd K S h) n (gdt (some (.int (nI (mN S 13)))) (wd K (m_add S a b c) h) n) 0 0 := by
  have b12 := hS.c12.2
  have b13 := hS.c13.2
  have b14 := hS.c14.2
  have b16 := hS.c16.2
  have b29 := hS.c29.2
  have b30 := hS.c30.2
  have b31 := hS.c31.2
  have b48 := hS.c48.2
  have b49 := hS.c49.2
  have b50 := hS.c50.2
  have b51 := hS.c51.2
  have b77 := hS.c77.2
  have b78 := hS.c78.2
  have b79 := hS.c79.2
  have b82 := hS.c82.2
  refine Con.begin [some (.ref 20), some (.int a), some (.int b), some (.int c)] rfl rfl (Nat.le_of_ble_eq_true rfl) rfl rfl (fun X C R => ?_)
  refine g_aload_n C (pc := 0) dX3_add_0 rfl rfl ?_
  refine m_geta C 2 21 (pc := 1) dX3_add_1 (by decide) (fun _ => rfl) q1195 rfl ?_
  refine g_aload_n C (pc := 4) dX3_add_4 rfl rfl ?_
  refine m_geti C 13 (pc := 5) (v := nI (mN S 13)) dX3_add_5 rfl q1206 rfl hS.c13.1 ?_
  refine g_iload_n C (pc := 8) dX3_add_8 rfl ?_
  refine m_iast C (pc := 9) (j := (mN S 13)) dX3_add_9 (by decide) rfl (vp_in_nI (by omega) (by decide)) (nI_clamp (by omega)) ?_
  refine g_aload_n C (pc := 10) dX3_add_10 rfl rfl ?_
  refine m_geta C 3 22 (pc := 11) dX3_add_11 (by decide) (fun _ => rfl) q1196 rfl ?_
  refine g_aload_n C (pc := 14) dX3_add_14 rfl rfl ?_
  refine m_geti C 13 (pc := 15) (v := nI (mN S 13)) dX3_add_15 rfl q1206 rfl hS.c13.1 ?_
  refine g_iload_n C (pc := 18) dX3_add_18 rfl ?_
  refine m_iast C (pc := 19) (j := (mN S 13)) dX3_add_19 (by decide) rfl (vp_in_nI (by omega) (by decide)) (nI_clamp (by omega)) ?_
  refine g_aload_n C (pc := 20) dX3_add_20 rfl rfl ?_
  refine m_geta C 4 23 (pc := 21) dX3_add_21 (by decide) (fun _ => rfl) q1197 rfl ?_
  refine g_aload_n C (pc := 24) dX3_add_24 rfl rfl ?_
  refine m_geti C 13 (pc := 25) (v := nI (mN S 13)) dX3_add_25 rfl q1206 rfl hS.c13.1 ?_
  refine g_iload_n C (pc := 28) dX3_add_28 rfl ?_
  refine m_iast C (pc := 29) (j := (mN S 13)) dX3_add_29 (by decide) rfl (vp_in_nI (by omega) (by decide)) (nI_clamp (by omega)) ?_
  refine g_aload_n C (pc := 30) dX3_add_30 rfl rfl ?_
  refine m_geta C 5 24 (pc := 31) dX3_add_31 (by decide) (fun _ => rfl) q1198 rfl ?_
  refine g_aload_n C (pc := 34) dX3_add_34 rfl rfl ?_
  refine m_geti C 13 (pc := 35) (v := nI (mN S 13)) dX3_add_35 rfl q1206 rfl hS.c13.1 ?_
  refine g_aload_n C (pc := 38) dX3_add_38 rfl rfl ?_
  refine m_geti C 1 (pc := 39) (v := S.1 1) dX3_add_39 rfl q1194 rfl rfl ?_
  refine m_iast C (pc := 42) (j := (mN S 13)) dX3_add_42 (by decide) rfl (vp_in_nI (by omega) (by decide)) (nI_clamp (by omega)) ?_
  refine g_aload_n C (pc := 43) dX3_add_43 rfl rfl ?_
  refine m_geta C 6 25 (pc := 44) dX3_add_44 (by decide) (fun _ => rfl) q1199 rfl ?_
  refine g_aload_n C (pc := 47) dX3_add_47 rfl rfl ?_
  refine m_geti C 13 (pc := 48) (v := nI (mN S 13)) dX3_add_48 rfl q1206 rfl hS.c13.1 ?_
  refine g_iconst C (pc := 51) (v := (-1)) dX3_add_51 (by decide) ?_
  refine m_iast C (pc := 52) (j := (mN S 13)) dX3_add_52 (by decide) rfl (vp_in_nI (by omega) (by decide)) (nI_clamp (by omega)) ?_
  refine g_aload_n C (pc := 53) dX3_add_53 rfl rfl ?_
  refine g_dup C (pc := 54) dX3_add_54 rfl ?_
  refine m_geti C 13 (pc := 55) (v := nI (mN S 13)) dX3_add_55 rfl q1206 rfl hS.c13.1 ?_
  refine g_iconst C (pc := 58) (v := 1) dX3_add_58 (by decide) ?_
  refine g_iadd C (pc := 59) dX3_add_59 ?_
  refine G.topc (nI_1 _) ?_
  refine m_puti C 13 (pc := 60) dX3_add_60 rfl q1206 rfl rfl rfl ?_
  refine g_aload_n C (pc := 63) dX3_add_63 rfl rfl ?_
  refine m_geti C 13 (pc := 64) (v := nI ((mN S 13) + 1)) dX3_add_64 rfl q1206 rfl rfl ?_
  refine g_iconst C (pc := 67) (v := 1) dX3_add_67 (by decide) ?_
  refine g_isub C (pc := 68) dX3_add_68 ?_
  refine G.topc (nI_pred _) ?_
  exact g_iretD C R dX3_add_69 (Nat.le_refl _) (Nat.le_refl _) (rfl) (congrArg (fun z => wd K z h) (rfl)) rfl
theorem ds_X3_add : yX3_add.cls ≠ "java/lang/invoke/MethodHandle" ∧ yX3_add.cls ≠ "java/lang/invoke/VarHandle" ∧ (parseMethodDescriptor yX3_add.desc).map (fun d => d.parameters.length) = some 3 := by decide +kernel
set_option maxHeartbeats 4000000 in
set_option maxRecDepth 100000 in
theorem c_X3_key (l : Launch) (D : gD) (B : Nat × Nat) (K : KS) (S : MS) (h : gHp) (n : Nat) (a : Int32) (b : Int32) (hS : MOK S) : Con l yX3_key (ws_ yX3_key cX3_key 3 (some .int)) ({ frames := 1, cells := 0, slots := 0, locals := 23 }) D B [.ref 20, .int a, .int b] (wd K S h) n (gdt (some (.int ((m_key S a b).2))) (wd K ((m_key S a b).1) h) n) 0 0 := by
  have b12 := hS.c12.2
  have b13 := hS.c13.2
  have b14 := hS.c14.2
  have b16 := hS.c16.2
  have b29 := hS.c29.2
  have b30 := hS.c30.2
  have b31 := hS.c31.2
  have b48 := hS.c48.2
  have b49 := hS.c49.2
  have b50 := hS.c50.2
  have b51 := hS.c51.2
  have b77 := hS.c77.2
  have b78 := hS.c78.2
  have b79 := hS.c79.2
  have b82 := hS.c82.2
  refine Con.begin [some (.ref 20), some (.int a), some (.int b)] rfl rfl (Nat.le_of_ble_eq_true rfl) rfl rfl (fun X C R => ?_)
  refine g_aload_n C (pc := 0) dX3_key_0 rfl rfl ?_
  refine g_iconst C (pc := 1) (v := 0) dX3_key_1 (by decide) ?_
  refine m_puti C 0 (pc := 2) dX3_key_2 rfl q1193 rfl rfl rfl ?_
  refine g_aload_n C (pc := 5) dX3_key_5 rfl rfl ?_
  refine m_geti C 13 (pc := 6) (v := nI (mN S 13)) dX3_key_6 rfl q1206 rfl hS.c13.1 ?_
  refine g_bipush C (pc := 9) (v := 40) dX3_key_9 (by decide) ?_
  refine g_icmp_ge C (pc := 11) (tgt := 43) dX3_key_11 (by decide) (fun c_11 => ?_) (fun c_11 => ?_)
  · skip
    have c_11 : 40 ≤ (mN S 13) := Nat.not_lt.mp fun q => c_11 ((nI_ltI (a := (mN S 13)) (b := 40) (by omega) (by omega)).mpr q)
    refine g_iconst C (pc := 43) (v := (-1)) dX3_key_43 (by decide) ?_
    exact g_iretD C R dX3_key_44 (Nat.le_refl _) (Nat.le_refl _) (by unfold m_key; first | (rw [if_pos (by  grind)] <;> first | rfl | (simp [mN_sI_ne, sI_2, p2i, b2i, *]; done) | grind) | (rw [if_neg (by  grind)] <;> first | rfl | (simp [mN_sI_ne, sI_2, p2i, b2i, *]; done) | grind)) (congrArg (fun z => wd K z h) (by unfold m_key; first | (rw [if_pos (by  grind)] <;> first | rfl | (simp [mN_sI_ne, sI_2, p2i, b2i, *]; done) | grind) | (rw [if_neg (by  grind)] <;> first | rfl | (simp [mN_sI_ne, sI_2, p2i, b2i, *]; done) | grind))) rfl
  · skip
    have c_11 : (mN S 13) < 40 := (nI_ltI (a := (mN S 13)) (b := 40) (by omega) (by omega)).mp c_11
    refine g_iload_n C (pc := 14) dX3_key_14 rfl ?_
    refine g_iconst C (pc := 15) (v := 1) dX3_key_15 (by decide) ?_
    refine g_sipush C (pc := 16) (v := 1018) dX3_key_16 (by decide) ?_
    refine g_callSD C (pc := 19) [.int a, .int 1, .int 1018] [] dX3_key_19 (c_X3_isIn l D B (wd K (sI S 0 0) h) n a 1 1018 ) (lw_S q1458 q1459 q87 q1460) ds_X3_isIn ⟨rfl, rfl⟩ ⟨Nat.le_of_ble_eq_true rfl, Nat.le_of_ble_eq_true rfl⟩ rfl rfl ⟨Nat.le_of_ble_eq_true rfl, Nat.le_of_ble_eq_true rfl⟩ (Nat.le_of_ble_eq_true rfl) rfl ?_
    refine g_if_eq C (pc := 22) (tgt := 43) dX3_key_22 (by decide) (fun c_22 => ?_) (fun c_22 => ?_)
    · skip
      have c_22 : ¬ (isIn a 1 1018) := p2i_0.mp c_22
      refine g_iconst C (pc := 43) (v := (-1)) dX3_key_43 (by decide) ?_
      exact g_iretD C R dX3_key_44 (Nat.le_refl _) (Nat.le_refl _) (by unfold m_key; first | (rw [if_pos (by  grind)] <;> first | rfl | (simp [mN_sI_ne, sI_2, p2i, b2i, *]; done) | grind) | (rw [if_neg (by  grind)] <;> first | rfl | (simp [mN_sI_ne, sI_2, p2i, b2i, *]; done) | grind)) (congrArg (fun z => wd K z h) (by unfold m_key; first | (rw [if_pos (by  grind)] <;> first | rfl | (simp [mN_sI_ne, sI_2, p2i, b2i, *]; done) | grind) | (rw [if_neg (by  grind)] <;> first | rfl | (simp [mN_sI_ne, sI_2, p2i, b2i, *]; done) | grind))) rfl
    · skip
      have c_22 : (isIn a 1 1018) := p2i_n0.mp c_22
      refine g_aload_n C (pc := 25) dX3_key_25 rfl rfl ?_
      refine g_iload_n C (pc := 26) dX3_key_26 rfl ?_
      refine g_if_eq C (pc := 27) (tgt := 34) dX3_key_27 (by decide) (fun c_27 => ?_) (fun c_27 => ?_)
      · skip
        refine g_iconst C (pc := 34) (v := 0) dX3_key_34 (by decide) ?_
        refine g_iload_n C (pc := 35) dX3_key_35 rfl ?_
        refine g_iconst C (pc := 36) (v := (-1)) dX3_key_36 (by decide) ?_
        refine g_callVD C (pc := 37) [.int 0, .int a, .int (-1)] [] dX3_key_37 (c_X3_add l D B K (sI S 0 0) h n 0 a (-1) (hS.setI 0 rfl) (by rw [mN_sI_ne _ _ (by decide)]; assumption)) (lw_V q1469 q1471 qs36 q87 q1472) (wd_20 _ _ _) rfl rfl ds_X3_add ⟨rfl, rfl⟩ ⟨Nat.le_of_ble_eq_true rfl, Nat.le_of_ble_eq_true rfl⟩ rfl rfl ⟨Nat.le_of_ble_eq_true rfl, Nat.le_of_ble_eq_true rfl⟩ (Nat.le_of_ble_eq_true rfl) rfl ?_
        refine G.nmS (fun S_37 e_S_37 => ?_)
        refine g_goto C (pc := 40) (tgt := 44) dX3_key_40 (by decide) ?_
        exact g_iretD C R dX3_key_44 (Nat.le_refl _) (Nat.le_refl _) (by unfold m_key; first | (rw [if_pos (by  grind)] <;> first | rfl | (simp [mN_sI_ne, sI_2, p2i, b2i, *]; done) | grind) | (rw [if_neg (by  grind)] <;> first | rfl | (simp [mN_sI_ne, sI_2, p2i, b2i, *]; done) | grind)) (congrArg (fun z => wd K z h) (by unfold m_key; first | (rw [if_pos (by  grind)] <;> first | rfl | (simp [mN_sI_ne, sI_2, p2i, b2i, *]; done) | grind) | (rw [if_neg (by  grind)] <;> first | rfl | (simp [mN_sI_ne, sI_2, p2i, b2i, *]; done) | grind))) rfl
      · skip
        refine g_iconst C (pc := 30) (v := 1) dX3_key_30 (by decide) ?_
        refine g_goto C (pc := 31) (tgt := 35) dX3_key_31 (by decide) ?_
        refine g_iload_n C (pc := 35) dX3_key_35 rfl ?_
        refine g_iconst C (pc := 36) (v := (-1)) dX3_key_36 (by decide) ?_
        refine g_callVD C (pc := 37) [.int 1, .int a, .int (-1)] [] dX3_key_37 (c_X3_add l D B K (sI S 0 0) h n 1 a (-1) (hS.setI 0 rfl) (by rw [mN_sI_ne _ _ (by decide)]; assumption)) (lw_V q1469 q1471 qs36 q87 q1472) (wd_20 _ _ _) rfl rfl ds_X3_add ⟨rfl, rfl⟩ ⟨Nat.le_of_ble_eq_true rfl, Nat.le_of_ble_eq_true rfl⟩ rfl rfl ⟨Nat.le_of_ble_eq_true rfl, Nat.le_of_ble_eq_true rfl⟩ (Nat.le_of_ble_eq_true rfl) rfl ?_
        refine G.nmS (fun S_37 e_S_37 => ?_)
        refine g_goto C (pc := 40) (tgt := 44) dX3_key_40 (by decide) ?_
        exact g_iretD C R dX3_key_44 (Nat.le_refl _) (Nat.le_refl _) (by unfold m_key; first | (rw [if_pos (by  grind)] <;> first | rfl | (simp [mN_sI_ne, sI_2, p2i, b2i, *]; done) | grind) | (rw [if_neg (by  grind)] <;> first | rfl | (simp [mN_sI_ne, sI_2, p2i, b2i, *]; done) | grind)) (congrArg (fun z => wd K z h) (by unfold m_key; first | (rw [if_pos (by  grind)] <;> first | rfl | (simp [mN_sI_ne, sI_2, p2i, b2i, *]; done) | grind) | (rw [if_neg (by  grind)] <;> first | rfl | (simp [mN_sI_ne, sI_2, p2i, b2i, *]; done) | grind))) rfl
theorem ds_X3_key : yX3_key.cls ≠ "java/lang/invoke/MethodHandle" ∧ yX3_key.cls ≠ "java/lang/invoke/VarHandle" ∧ (parseMethodDescriptor yX3_key.desc).map (fun d => d.parameters.length) = some 2 := by decide +kernel
set_option maxHeartbeats 4000000 in
set_option maxRecDepth 100000 in
theorem c_X3_bytesIn (l : Launch) (D : gD) (B : Nat × Nat) (h : gHp) (n : Nat) (v : Int32)  : Con l yX3_bytesIn (ws_ yX3_bytesIn cX3_bytesIn 3 (some .int)) ({ frames := 0, cells := 0, slots := 0, locals := 0 }) D B [.int v] h n (gdt (some (.int (nI (cntB v 4)))) h n) 0 0 := by
  refine Con.begin [some (.int v), none, none] rfl rfl (Nat.le_of_ble_eq_true rfl) rfl rfl (fun X C R => ?_)
  refine g_iconst C (pc := 0) (v := 0) dX3_bytesIn_0 (by decide) ?_
  refine g_istore_n C (pc := 1) (L' := [some (.int v), some (.int 0), none]) dX3_bytesIn_1 (by decide) rfl rfl ?_
  refine g_bipush C (pc := 2) (v := 24) dX3_bytesIn_2 (by decide) ?_
  refine g_istore_n C (pc := 4) (L' := [some (.int v), some (.int 0), some (.int 24)]) dX3_bytesIn_4 (by decide) rfl rfl ?_
  have loop_5 : ∀ (d5 : Nat) (j : Nat) (x : Int32) (y : Int32), (j ≤ 4) → (x = shj j) → (y = nI (cntB v j)) → 4 - j < d5 → G X D B h n 0 0 [some (.int v), some (.int y), some (.int x)] 5 [] := by
    intro d5
    induction d5 with
    | zero =>
      intro j x y hj hx hy hm5
      exact absurd hm5 (Nat.not_lt_zero _)
    | succ d5 ih5 =>
      intro j x y hj hx hy hm5
      refine g_iload_n C (pc := 5) dX3_bytesIn_5 rfl ?_
      refine g_if_lt C (pc := 6) (tgt := 33) dX3_bytesIn_6 (by decide) (fun c_6 => ?_) (fun c_6 => ?_)
      · skip
        have hj4 : j = 4 := by rcases Nat.lt_or_ge j 4 with q | q; exact absurd c_6 (by rw [hx]; exact (shj_s (by omega)).2); omega
        subst hj4
        refine g_iload_n C (pc := 33) dX3_bytesIn_33 rfl ?_
        exact g_iretD C R dX3_bytesIn_34 (Nat.le_refl _) (Nat.le_refl _) (hy) rfl rfl
      · skip
        have hj4 : j < 4 := by rcases Nat.lt_or_ge j 4 with q | q; exact q; exact absurd (by rw [hx, show j = 4 by omega]; exact shj_4) c_6
        have hz : bytz v j = v >>> (x &&& 31) &&& 255 := by rw [hx]; rfl
        subst hy
        refine g_iload_n C (pc := 9) dX3_bytesIn_9 rfl ?_
        refine g_iload_n C (pc := 10) dX3_bytesIn_10 rfl ?_
        refine g_iload_n C (pc := 11) dX3_bytesIn_11 rfl ?_
        refine g_ishr C (pc := 12) dX3_bytesIn_12 ?_
        refine g_sipush C (pc := 13) (v := 255) dX3_bytesIn_13 (by decide) ?_
        refine g_iand C (pc := 16) dX3_bytesIn_16 ?_
        refine g_if_eq C (pc := 17) (tgt := 24) dX3_bytesIn_17 (by decide) (fun c_17 => ?_) (fun c_17 => ?_)
        · skip
          have hs : cntB v (j + 1) = cntB v j := by simp only [cntB]; rw [if_pos (hz.trans c_17)]; omega
          refine g_iconst C (pc := 24) (v := 0) dX3_bytesIn_24 (by decide) ?_
          refine g_iadd C (pc := 25) dX3_bytesIn_25 ?_
          refine G.topc (Int32.add_zero _) ?_
          refine g_istore_n C (pc := 26) (L' := [some (.int v), some (.int (nI (cntB v j))), some (.int x)]) dX3_bytesIn_26 (by decide) rfl rfl ?_
          refine g_iinc C (pc := 27) (v := x + (-8)) (L' := [some (.int v), some (.int (nI (cntB v j))), some (.int (x + (-8)))]) dX3_bytesIn_27 rfl rfl (by decide) rfl rfl ?_
          refine g_goto C (pc := 30) (tgt := 5) dX3_bytesIn_30 (by decide) ?_
          refine G.mask [true, true, true] rfl ?_
          exact ih5 (j + 1) (x + (-8)) (nI (cntB v j)) (by omega) (by rw [hx]; exact (shj_s (by omega)).1) (by rw [hs]) (by omega)
        · skip
          have hs : cntB v (j + 1) = cntB v j + 1 := by simp only [cntB]; rw [if_neg (fun q => c_17 (hz.symm.trans q))]
          refine g_iconst C (pc := 20) (v := 1) dX3_bytesIn_20 (by decide) ?_
          refine g_goto C (pc := 21) (tgt := 25) dX3_bytesIn_21 (by decide) ?_
          refine g_iadd C (pc := 25) dX3_bytesIn_25 ?_
          refine G.topc (nI_1 _) ?_
          refine g_istore_n C (pc := 26) (L' := [some (.int v), some (.int (nI ((cntB v j) + 1))), some (.int x)]) dX3_bytesIn_26 (by decide) rfl rfl ?_
          refine g_iinc C (pc := 27) (v := x + (-8)) (L' := [some (.int v), some (.int (nI ((cntB v j) + 1))), some (.int (x + (-8)))]) dX3_bytesIn_27 rfl rfl (by decide) rfl rfl ?_
          refine g_goto C (pc := 30) (tgt := 5) dX3_bytesIn_30 (by decide) ?_
          refine G.mask [true, true, true] rfl ?_
          exact ih5 (j + 1) (x + (-8)) (nI ((cntB v j) + 1)) (by omega) (by rw [hx]; exact (shj_s (by omega)).1) (by rw [hs]) (by omega)
  refine G.mask [true, true, true] rfl ?_
  exact loop_5 _ 0 24 0 (by omega) (by decide) (rfl) (Nat.lt_succ_self _)
theorem ds_X3_bytesIn : yX3_bytesIn.cls ≠ "java/lang/invoke/MethodHandle" ∧ yX3_bytesIn.cls ≠ "java/lang/invoke/VarHandle" ∧ (parseMethodDescriptor yX3_bytesIn.desc).map (fun d => d.parameters.length) = some 1 := by decide +kernel
set_option maxHeartbeats 4000000 in
set_option maxRecDepth 100000 in
theorem c_X3_put (l : Launch) (D : gD) (B : Nat × Nat) (K : KS) (S : MS) (h : gHp) (n : Nat) (v : Int32) (hn : (S.1 16) = nI (mN S 16)) (hl : (mN S 16) + cntB v 4 ≤ 160) : Con l yX3_put (ws_ yX3_put cX3_put 3 none) ({ frames := 0, cells := 0, slots := 0, locals := 0 }) D B [.ref 20, .int v] (wd K S h) n (gdt none (wd K (putS S v 4) h) n) 0 0 := by
  refine Con.begin [some (.ref 20), some (.int v), none] rfl rfl (Nat.le_of_ble_eq_true rfl) rfl rfl (fun X C R => ?_)
  refine g_bipush C (pc := 0) (v := 24) dX3_put_0 (by decide) ?_
  refine g_istore_n C (pc := 2) (L' := [some (.ref 20), some (.int v), some (.int 24)]) dX3_put_2 (by decide) rfl rfl ?_
  have loop_3 : ∀ (d3 : Nat) (j : Nat) (x : Int32) (S2 : MS), (j ≤ 4) → (x = shj j) → (S2 = putS S v j) → 4 - j < d3 → G X D B (wd K S2 h) n 0 0 [some (.ref 20), some (.int v), some (.int x)] 3 [] := by
    intro d3
    induction d3 with
    | zero =>
      intro j x S2 hj hx hS2 hm3
      exact absurd hm3 (Nat.not_lt_zero _)
    | succ d3 ih3 =>
      intro j x S2 hj hx hS2 hm3
      have hS2l : (S2.1 16) = nI (mN S2 16) := by rw [hS2]; obtain ⟨q1, q2⟩ := putS_len S v hn (by omega) j hj; rw [q1, q2]
      refine g_iload_n C (pc := 3) dX3_put_3 rfl ?_
      refine g_if_lt C (pc := 4) (tgt := 49) dX3_put_4 (by decide) (fun c_4 => ?_) (fun c_4 => ?_)
      · skip
        have hj4 : j = 4 := by rcases Nat.lt_or_ge j 4 with q | q; exact absurd c_4 (by rw [hx]; exact (shj_s (by omega)).2); omega
        subst hj4
        exact g_vretD C R dX3_put_49 (Nat.le_refl _) (Nat.le_refl _) (congrArg (fun z => wd K z h) (hS2)) rfl
      · skip
        have hj4 : j < 4 := by rcases Nat.lt_or_ge j 4 with q | q; exact q; exact absurd (by rw [hx, show j = 4 by omega]; exact shj_4) c_4
        have hz : bytz v j = v >>> (x &&& 31) &&& 255 := by rw [hx]; rfl
        refine g_iload_n C (pc := 7) dX3_put_7 rfl ?_
        refine g_iload_n C (pc := 8) dX3_put_8 rfl ?_
        refine g_ishr C (pc := 9) dX3_put_9 ?_
        refine g_sipush C (pc := 10) (v := 255) dX3_put_10 (by decide) ?_
        refine g_iand C (pc := 13) dX3_put_13 ?_
        refine g_if_ne C (pc := 14) (tgt := 20) dX3_put_14 (by decide) (fun c_14 => ?_) (fun c_14 => ?_)
        · skip
          have hlt : mN S2 16 < 160 := by have q1 := (putS_len S v hn (by omega) j hj).2; have q2 := cntB_mono v (show j + 1 ≤ 4 by omega); simp only [cntB] at q2; rw [if_neg (fun q => c_14 (hz.symm.trans q))] at q2; rw [hS2, q1]; simp only [cntB] at hl q2; omega
          have hs : sI (sE S2 31 (mN S2 16) (n8 (n8 (v >>> (x &&& 31))))) 16 (nI (mN S2 16 + 1)) = putS S v (j + 1) := by simp only [putS]; rw [if_neg (fun q => c_14 (hz.symm.trans q)), ← hS2, hx]
          refine g_aload_n C (pc := 20) dX3_put_20 rfl rfl ?_
          refine m_geta C 15 31 (pc := 21) dX3_put_21 (by decide) (fun _ => rfl) q1208 rfl ?_
          refine g_aload_n C (pc := 24) dX3_put_24 rfl rfl ?_
          refine m_geti C 16 (pc := 25) (v := nI (mN S2 16)) dX3_put_25 rfl q1209 rfl hS2l ?_
          refine g_iload_n C (pc := 28) dX3_put_28 rfl ?_
          refine g_iload_n C (pc := 29) dX3_put_29 rfl ?_
          refine g_ishr C (pc := 30) dX3_put_30 ?_
          refine g_i2b C (pc := 31) (v := n8 (v >>> (x &&& 31))) dX3_put_31 rfl ?_
          refine m_bast C (pc := 32) (j := (mN S2 16)) dX3_put_32 (by decide) rfl (vp_in_nI (by omega) (by decide)) (nI_clamp (by omega)) ?_
          refine g_aload_n C (pc := 33) dX3_put_33 rfl rfl ?_
          refine g_dup C (pc := 34) dX3_put_34 rfl ?_
          refine m_geti C 16 (pc := 35) (v := nI (mN S2 16)) dX3_put_35 rfl q1209 rfl hS2l ?_
          refine g_iconst C (pc := 38) (v := 1) dX3_put_38 (by decide) ?_
          refine g_iadd C (pc := 39) dX3_put_39 ?_
          refine G.topc (nI_1 _) ?_
          refine m_puti C 16 (pc := 40) dX3_put_40 rfl q1209 rfl rfl rfl ?_
          refine g_iinc C (pc := 43) (v := x + (-8)) (L' := [some (.ref 20), some (.int v), some (.int (x + (-8)))]) dX3_put_43 rfl rfl (by decide) rfl rfl ?_
          refine g_goto C (pc := 46) (tgt := 3) dX3_put_46 (by decide) ?_
          refine G.mask [true, true, true] rfl ?_
          exact ih3 (j + 1) (x + (-8)) (sI (sE S2 31 (mN S2 16) (n8 (n8 (v >>> (x &&& 31))))) 16 (nI ((mN S2 16) + 1))) (by omega) (by rw [hx]; exact (shj_s (by omega)).1) (hs) (by omega)
        · skip
          have hs : S2 = putS S v (j + 1) := by simp only [putS]; rw [if_pos (hz.trans c_14)]; exact hS2
          refine g_goto C (pc := 17) (tgt := 43) dX3_put_17 (by decide) ?_
          refine g_iinc C (pc := 43) (v := x + (-8)) (L' := [some (.ref 20), some (.int v), some (.int (x + (-8)))]) dX3_put_43 rfl rfl (by decide) rfl rfl ?_
          refine g_goto C (pc := 46) (tgt := 3) dX3_put_46 (by decide) ?_
          refine G.mask [true, true, true] rfl ?_
          exact ih3 (j + 1) (x + (-8)) S2 (by omega) (by rw [hx]; exact (shj_s (by omega)).1) (hs) (by omega)
  refine G.mask [true, true, true] rfl ?_
  exact loop_3 _ 0 24 S (by omega) (by decide) (rfl) (Nat.lt_succ_self _)
theorem ds_X3_put : yX3_put.cls ≠ "java/lang/invoke/MethodHandle" ∧ yX3_put.cls ≠ "java/lang/invoke/VarHandle" ∧ (parseMethodDescriptor yX3_put.desc).map (fun d => d.parameters.length) = some 1 := by decide +kernel
set_option maxHeartbeats 4000000 in
set_option maxRecDepth 100000 in
theorem c_X3_feed (l : Launch) (D : gD) (B : Nat × Nat) (K : KS) (S : MS) (h : gHp) (n : Nat) (a : Int32) (b : Int32) (c : Int32) (e : Int32) (f : Int32) (hS : MOK S) : Con l yX3_feed (ws_ yX3_feed cX3_feed 6 (some .int)) ({ frames := 1, cells := 0, slots := 0, locals := 22 }) D B [.ref 20, .int a, .int b, .int c, .int e, .int f] (wd K S h) n (gdt (some (.int ((m_feed S a b c e f).2))) (wd K ((m_feed S a b c e f).1) h) n) 0 0 := by
  have b12 := hS.c12.2
  have b13 := hS.c13.2
  have b14 := hS.c14.2
  have b16 := hS.c16.2
  have b29 := hS.c29.2
  have b30 := hS.c30.2
  have b31 := hS.c31.2
  have b48 := hS.c48.2
  have b49 := hS.c49.2
  have b50 := hS.c50.2
  have b51 := hS.c51.2
  have b77 := hS.c77.2
  have b78 := hS.c78.2
  have b79 := hS.c79.2
  have b82 := hS.c82.2
  have z1 := cntB_le a 4
  have z2 := cntB_le b 4
  have z3 := cntB_le c 4
  have z4 := cntB_le e 4
  have z5 := cntB_le f 4
  have e0 : mN (sI S 0 0) 16 = (mN S 16) := rfl
  refine Con.begin [some (.ref 20), some (.int a), some (.int b), some (.int c), some (.int e), some (.int f)] rfl rfl (Nat.le_of_ble_eq_true rfl) rfl rfl (fun X C R => ?_)
  refine g_aload_n C (pc := 0) dX3_feed_0 rfl rfl ?_
  refine g_iconst C (pc := 1) (v := 0) dX3_feed_1 (by decide) ?_
  refine m_puti C 0 (pc := 2) dX3_feed_2 rfl q1193 rfl rfl rfl ?_
  refine g_aload_n C (pc := 5) dX3_feed_5 rfl rfl ?_
  refine m_geti C 16 (pc := 6) (v := nI (mN S 16)) dX3_feed_6 rfl q1209 rfl hS.c16.1 ?_
  refine g_iload_n C (pc := 9) dX3_feed_9 rfl ?_
  refine g_callSD C (pc := 10) [.int a] [.int (nI (mN S 16))] dX3_feed_10 (c_X3_bytesIn l D B (wd K (sI S 0 0) h) n a ) (lw_S q1477 q1478 q87 q1479) ds_X3_bytesIn ⟨rfl, rfl⟩ ⟨Nat.le_of_ble_eq_true rfl, Nat.le_of_ble_eq_true rfl⟩ rfl rfl ⟨Nat.le_of_ble_eq_true rfl, Nat.le_of_ble_eq_true rfl⟩ (Nat.le_of_ble_eq_true rfl) rfl ?_
  refine g_iadd C (pc := 13) dX3_feed_13 ?_
  refine G.topc (nI_add _ _) ?_
  refine g_iload_n C (pc := 14) dX3_feed_14 rfl ?_
  refine g_callSD C (pc := 15) [.int b] [.int (nI ((mN S 16) + (cntB a 4)))] dX3_feed_15 (c_X3_bytesIn l D B (wd K (sI S 0 0) h) n b ) (lw_S q1477 q1478 q87 q1479) ds_X3_bytesIn ⟨rfl, rfl⟩ ⟨Nat.le_of_ble_eq_true rfl, Nat.le_of_ble_eq_true rfl⟩ rfl rfl ⟨Nat.le_of_ble_eq_true rfl, Nat.le_of_ble_eq_true rfl⟩ (Nat.le_of_ble_eq_true rfl) rfl ?_
  refine g_iadd C (pc := 18) dX3_feed_18 ?_
  refine G.topc (nI_add _ _) ?_
  refine g_iload_n C (pc := 19) dX3_feed_19 rfl ?_
  refine g_callSD C (pc := 20) [.int c] [.int (nI (((mN S 16) + (cntB a 4)) + (cntB b 4)))] dX3_feed_20 (c_X3_bytesIn l D B (wd K (sI S 0 0) h) n c ) (lw_S q1477 q1478 q87 q1479) ds_X3_bytesIn ⟨rfl, rfl⟩ ⟨Nat.le_of_ble_eq_true rfl, Nat.le_of_ble_eq_true rfl⟩ rfl rfl ⟨Nat.le_of_ble_eq_true rfl, Nat.le_of_ble_eq_true rfl⟩ (Nat.le_of_ble_eq_true rfl) rfl ?_
  refine g_iadd C (pc := 23) dX3_feed_23 ?_
  refine G.topc (nI_add _ _) ?_
  refine g_iload C (pc := 24) dX3_feed_24 rfl ?_
  refine g_callSD C (pc := 26) [.int e] [.int (nI ((((mN S 16) + (cntB a 4)) + (cntB b 4)) + (cntB c 4)))] dX3_feed_26 (c_X3_bytesIn l D B (wd K (sI S 0 0) h) n e ) (lw_S q1477 q1478 q87 q1479) ds_X3_bytesIn ⟨rfl, rfl⟩ ⟨Nat.le_of_ble_eq_true rfl, Nat.le_of_ble_eq_true rfl⟩ rfl rfl ⟨Nat.le_of_ble_eq_true rfl, Nat.le_of_ble_eq_true rfl⟩ (Nat.le_of_ble_eq_true rfl) rfl ?_
  refine g_iadd C (pc := 29) dX3_feed_29 ?_
  refine G.topc (nI_add _ _) ?_
  refine g_iload C (pc := 30) dX3_feed_30 rfl ?_
  refine g_callSD C (pc := 32) [.int f] [.int (nI (((((mN S 16) + (cntB a 4)) + (cntB b 4)) + (cntB c 4)) + (cntB e 4)))] dX3_feed_32 (c_X3_bytesIn l D B (wd K (sI S 0 0) h) n f ) (lw_S q1477 q1478 q87 q1479) ds_X3_bytesIn ⟨rfl, rfl⟩ ⟨Nat.le_of_ble_eq_true rfl, Nat.le_of_ble_eq_true rfl⟩ rfl rfl ⟨Nat.le_of_ble_eq_true rfl, Nat.le_of_ble_eq_true rfl⟩ (Nat.le_of_ble_eq_true rfl) rfl ?_
  refine g_iadd C (pc := 35) dX3_feed_35 ?_
  refine G.topc (nI_add _ _) ?_
  refine g_sipush C (pc := 36) (v := 160) dX3_feed_36 (by decide) ?_
  refine g_icmp_le C (pc := 39) (tgt := 44) dX3_feed_39 (by decide) (fun c_39 => ?_) (fun c_39 => ?_)
  · skip
    have c_39 : ((((((mN S 16) + (cntB a 4)) + (cntB b 4)) + (cntB c 4)) + (cntB e 4)) + (cntB f 4)) ≤ 160 := Nat.not_lt.mp fun q => c_39 ((nI_ltI (a := 160) (b := ((((((mN S 16) + (cntB a 4)) + (cntB b 4)) + (cntB c 4)) + (cntB e 4)) + (cntB f 4))) (by omega) (by omega)).mpr q)
    have d1 := putS_len (sI S 0 0) a hS.c16.1 (by omega) 4 (by omega)
    refine g_aload_n C (pc := 44) dX3_feed_44 rfl rfl ?_
    refine g_iload_n C (pc := 45) dX3_feed_45 rfl ?_
    refine g_callVDv C (pc := 46) [.int a] [] dX3_feed_46 (c_X3_put l D B K (sI S 0 0) h n a hS.c16.1 (by rw [e0]; omega)) (lw_V q1480 q1482 qs37 q87 q1483) (wd_20 _ _ _) rfl rfl ds_X3_put ⟨rfl, rfl⟩ ⟨Nat.le_of_ble_eq_true rfl, Nat.le_of_ble_eq_true rfl⟩ rfl rfl ⟨Nat.le_of_ble_eq_true rfl, Nat.le_of_ble_eq_true rfl⟩ (Nat.le_of_ble_eq_true rfl) rfl ?_
    refine G.nmS (fun S_46 e_S_46 => ?_)
    rw [← e_S_46] at d1
    have d2 := putS_len S_46 b (by rw [d1.1, d1.2]) (by omega) 4 (by omega)
    refine g_aload_n C (pc := 49) dX3_feed_49 rfl rfl ?_
    refine g_iload_n C (pc := 50) dX3_feed_50 rfl ?_
    refine g_callVDv C (pc := 51) [.int b] [] dX3_feed_51 (c_X3_put l D B K S_46 h n b (by rw [d1.1, d1.2]) (by omega)) (lw_V q1480 q1482 qs37 q87 q1483) (wd_20 _ _ _) rfl rfl ds_X3_put ⟨rfl, rfl⟩ ⟨Nat.le_of_ble_eq_true rfl, Nat.le_of_ble_eq_true rfl⟩ rfl rfl ⟨Nat.le_of_ble_eq_true rfl, Nat.le_of_ble_eq_true rfl⟩ (Nat.le_of_ble_eq_true rfl) rfl ?_
    refine G.nmS (fun S_51 e_S_51 => ?_)
    rw [← e_S_51] at d2
    have d3 := putS_len S_51 c (by rw [d2.1, d2.2]) (by omega) 4 (by omega)
    refine g_aload_n C (pc := 54) dX3_feed_54 rfl rfl ?_
    refine g_iload_n C (pc := 55) dX3_feed_55 rfl ?_
    refine g_callVDv C (pc := 56) [.int c] [] dX3_feed_56 (c_X3_put l D B K S_51 h n c (by rw [d2.1, d2.2]) (by omega)) (lw_V q1480 q1482 qs37 q87 q1483) (wd_20 _ _ _) rfl rfl ds_X3_put ⟨rfl, rfl⟩ ⟨Nat.le_of_ble_eq_true rfl, Nat.le_of_ble_eq_true rfl⟩ rfl rfl ⟨Nat.le_of_ble_eq_true rfl, Nat.le_of_ble_eq_true rfl⟩ (Nat.le_of_ble_eq_true rfl) rfl ?_
    refine G.nmS (fun S_56 e_S_56 => ?_)
    rw [← e_S_56] at d3
    have d4 := putS_len S_56 e (by rw [d3.1, d3.2]) (by omega) 4 (by omega)
    refine g_aload_n C (pc := 59) dX3_feed_59 rfl rfl ?_
    refine g_iload C (pc := 60) dX3_feed_60 rfl ?_
    refine g_callVDv C (pc := 62) [.int e] [] dX3_feed_62 (c_X3_put l D B K S_56 h n e (by rw [d3.1, d3.2]) (by omega)) (lw_V q1480 q1482 qs37 q87 q1483) (wd_20 _ _ _) rfl rfl ds_X3_put ⟨rfl, rfl⟩ ⟨Nat.le_of_ble_eq_true rfl, Nat.le_of_ble_eq_true rfl⟩ rfl rfl ⟨Nat.le_of_ble_eq_true rfl, Nat.le_of_ble_eq_true rfl⟩ (Nat.le_of_ble_eq_true rfl) rfl ?_
    refine G.nmS (fun S_62 e_S_62 => ?_)
    rw [← e_S_62] at d4
    have d5 := putS_len S_62 f (by rw [d4.1, d4.2]) (by omega) 4 (by omega)
    refine g_aload_n C (pc := 65) dX3_feed_65 rfl rfl ?_
    refine g_iload C (pc := 66) dX3_feed_66 rfl ?_
    refine g_callVDv C (pc := 68) [.int f] [] dX3_feed_68 (c_X3_put l D B K S_62 h n f (by rw [d4.1, d4.2]) (by omega)) (lw_V q1480 q1482 qs37 q87 q1483) (wd_20 _ _ _) rfl rfl ds_X3_put ⟨rfl, rfl⟩ ⟨Nat.le_of_ble_eq_true rfl, Nat.le_of_ble_eq_true rfl⟩ rfl rfl ⟨Nat.le_of_ble_eq_true rfl, Nat.le_of_ble_eq_true rfl⟩ (Nat.le_of_ble_eq_true rfl) rfl ?_
    refine G.nmS (fun S_68 e_S_68 => ?_)
    refine g_aload_n C (pc := 71) dX3_feed_71 rfl rfl ?_
    refine m_geti C 16 (pc := 72) (v := S_68.1 16) dX3_feed_72 rfl q1209 rfl rfl ?_
    exact g_iretD C R dX3_feed_75 (Nat.le_refl _) (Nat.le_refl _) (by unfold m_feed feedS; rw [if_neg (by omega)]; simp only [e_S_68, e_S_62, e_S_56, e_S_51, e_S_46]) (congrArg (fun z => wd K z h) (by unfold m_feed feedS; rw [if_neg (by omega)]; simp only [e_S_68, e_S_62, e_S_56, e_S_51, e_S_46])) rfl
  · skip
    have c_39 : 160 < ((((((mN S 16) + (cntB a 4)) + (cntB b 4)) + (cntB c 4)) + (cntB e 4)) + (cntB f 4)) := (nI_ltI (a := 160) (b := ((((((mN S 16) + (cntB a 4)) + (cntB b 4)) + (cntB c 4)) + (cntB e 4)) + (cntB f 4))) (by omega) (by omega)).mp c_39
    refine g_iconst C (pc := 42) (v := (-1)) dX3_feed_42 (by decide) ?_
    exact g_iretD C R dX3_feed_43 (Nat.le_refl _) (Nat.le_refl _) (by unfold m_feed; rw [if_pos (by omega)]) (congrArg (fun z => wd K z h) (by unfold m_feed; rw [if_pos (by omega)])) rfl
theorem ds_X3_feed : yX3_feed.cls ≠ "java/lang/invoke/MethodHandle" ∧ yX3_feed.cls ≠ "java/lang/invoke/VarHandle" ∧ (parseMethodDescriptor yX3_feed.desc).map (fun d => d.parameters.length) = some 5 := by decide +kernel
set_option maxHeartbeats 4000000 in
set_option maxRecDepth 100000 in
theorem c_X3_end (l : Launch) (D : gD) (B : Nat × Nat) (K : KS) (S : MS) (h : gHp) (n : Nat) (v : Int32) (hS : MOK S) : Con l yX3_end (ws_ yX3_end cX3_end 2 (some .boolean)) ({ frames := 0, cells := 0, slots := 0, locals := 0 }) D B [.ref 20, .int v] (wd K S h) n (gdt (some (.int (b2i (m_end S v).2))) (wd K ((m_end S v).1) h) n) 0 0 := by
  have b12 := hS.c12.2
  have b13 := hS.c13.2
  have b14 := hS.c14.2
  have b16 := hS.c16.2
  have b29 := hS.c29.2
  have b30 := hS.c30.2
  have b31 := hS.c31.2
  have b48 := hS.c48.2
  have b49 := hS.c49.2
  have b50 := hS.c50.2
  have b51 := hS.c51.2
  have b77 := hS.c77.2
  have b78 := hS.c78.2
  have b79 := hS.c79.2
  have b82 := hS.c82.2
  refine Con.begin [some (.ref 20), some (.int v)] rfl rfl (Nat.le_of_ble_eq_true rfl) rfl rfl (fun X C R => ?_)
  refine g_aload_n C (pc := 0) dX3_end_0 rfl rfl ?_
  refine g_iconst C (pc := 1) (v := 0) dX3_end_1 (by decide) ?_
  refine m_puti C 0 (pc := 2) dX3_end_2 rfl q1193 rfl rfl rfl ?_
  refine g_iload_n C (pc := 5) dX3_end_5 rfl ?_
  refine g_if_lt C (pc := 6) (tgt := 17) dX3_end_6 (by decide) (fun c_6 => ?_) (fun c_6 => ?_)
  · skip
    refine g_iconst C (pc := 17) (v := 0) dX3_end_17 (by decide) ?_
    exact g_zretD C (b2i_nb _) R dX3_end_18 (Nat.le_refl _) (Nat.le_refl _) (by unfold m_end; first | (rw [if_pos (by  grind)] <;> first | rfl | (simp [mN_sI_ne, sI_2, p2i, b2i, *]; done) | grind) | (rw [if_neg (by  grind)] <;> first | rfl | (simp [mN_sI_ne, sI_2, p2i, b2i, *]; done) | grind)) (congrArg (fun z => wd K z h) (by unfold m_end; first | (rw [if_pos (by  grind)] <;> first | rfl | (simp [mN_sI_ne, sI_2, p2i, b2i, *]; done) | grind) | (rw [if_neg (by  grind)] <;> first | rfl | (simp [mN_sI_ne, sI_2, p2i, b2i, *]; done) | grind))) rfl
  · skip
    refine g_iload_n C (pc := 9) dX3_end_9 rfl ?_
    refine g_aload_n C (pc := 10) dX3_end_10 rfl rfl ?_
    refine m_geti C 16 (pc := 11) (v := (S.1 16)) dX3_end_11 rfl q1209 rfl rfl ?_
    refine g_icmp_le C (pc := 14) (tgt := 19) dX3_end_14 (by decide) (fun c_14 => ?_) (fun c_14 => ?_)
    · skip
      have c_14 : ¬ ((S.1 16) : Int32) < v := c_14
      refine g_aload_n C (pc := 19) dX3_end_19 rfl rfl ?_
      refine g_iload_n C (pc := 20) dX3_end_20 rfl ?_
      refine m_puti C 16 (pc := 21) dX3_end_21 rfl q1209 rfl rfl rfl ?_
      refine g_iconst C (pc := 24) (v := 1) dX3_end_24 (by decide) ?_
      exact g_zretD C (b2i_nb _) R dX3_end_25 (Nat.le_refl _) (Nat.le_refl _) (by unfold m_end; first | (rw [if_pos (by  grind)] <;> first | rfl | (simp [mN_sI_ne, sI_2, p2i, b2i, *]; done) | grind) | (rw [if_neg (by  grind)] <;> first | rfl | (simp [mN_sI_ne, sI_2, p2i, b2i, *]; done) | grind)) (congrArg (fun z => wd K z h) (by unfold m_end; first | (rw [if_pos (by  grind)] <;> first | rfl | (simp [mN_sI_ne, sI_2, p2i, b2i, *]; done) | grind) | (rw [if_neg (by  grind)] <;> first | rfl | (simp [mN_sI_ne, sI_2, p2i, b2i, *]; done) | grind))) rfl
    · skip
      have c_14 : ((S.1 16) : Int32) < v := c_14
      refine g_iconst C (pc := 17) (v := 0) dX3_end_17 (by decide) ?_
      exact g_zretD C (b2i_nb _) R dX3_end_18 (Nat.le_refl _) (Nat.le_refl _) (by unfold m_end; first | (rw [if_pos (by  grind)] <;> first | rfl | (simp [mN_sI_ne, sI_2, p2i, b2i, *]; done) | grind) | (rw [if_neg (by  grind)] <;> first | rfl | (simp [mN_sI_ne, sI_2, p2i, b2i, *]; done) | grind)) (congrArg (fun z => wd K z h) (by unfold m_end; first | (rw [if_pos (by  grind)] <;> first | rfl | (simp [mN_sI_ne, sI_2, p2i, b2i, *]; done) | grind) | (rw [if_neg (by  grind)] <;> first | rfl | (simp [mN_sI_ne, sI_2, p2i, b2i, *]; done) | grind))) rfl
theorem ds_X3_end : yX3_end.cls ≠ "java/lang/invoke/MethodHandle" ∧ yX3_end.cls ≠ "java/lang/invoke/VarHandle" ∧ (parseMethodDescriptor yX3_end.desc).map (fun d => d.parameters.length) = some 1 := by decide +kernel
set_option maxHeartbeats 4000000 in
set_option maxRecDepth 100000 in
theorem c_X3_power (l : Launch) (D : gD) (B : Nat × Nat) (h : gHp) (n : Nat) (b : Int32) (e : Int32) (m : Int32) (hm : ¬ m = 0) : Con l yX3_power (ws_ yX3_power cX3_power 5 (some .int)) ({ frames := 0, cells := 0, slots := 0, locals := 0 }) D B [.int b, .int e, .int m] h n (gdt (some (.int (pwr b m e.toNatClampNeg))) h n) 0 0 := by
  refine Con.begin [some (.int b), some (.int e), some (.int m), none, none] rfl rfl (Nat.le_of_ble_eq_true rfl) rfl rfl (fun X C R => ?_)
  refine g_iconst C (pc := 0) (v := 1) dX3_power_0 (by decide) ?_
  refine g_istore_n C (pc := 1) (L' := [some (.int b), some (.int e), some (.int m), some (.int 1), none]) dX3_power_1 (by decide) rfl rfl ?_
  refine g_iconst C (pc := 2) (v := 0) dX3_power_2 (by decide) ?_
  refine g_istore C (pc := 3) (L' := [some (.int b), some (.int e), some (.int m), some (.int 1), some (.int 0)]) dX3_power_3 (by decide) rfl rfl ?_
  have loop_5 : ∀ (d5 : Nat) (j : Nat) (x : Int32), (j ≤ e.toNatClampNeg) → (x = pwr b m j) → e.toNatClampNeg - j < d5 → G X D B h n 0 0 [some (.int b), some (.int e), some (.int m), some (.int x), some (.int (nI j))] 5 [] := by
    intro d5
    induction d5 with
    | zero =>
      intro j x hj hx hm5
      exact absurd hm5 (Nat.not_lt_zero _)
    | succ d5 ih5 =>
      intro j x hj hx hm5
      have h31 : e.toNatClampNeg < 2 ^ 31 := tnc_lt e
      refine g_iload C (pc := 5) dX3_power_5 rfl ?_
      refine g_iload_n C (pc := 7) dX3_power_7 rfl ?_
      refine g_icmp_ge C (pc := 8) (tgt := 23) dX3_power_8 (by decide) (fun c_8 => ?_) (fun c_8 => ?_)
      · skip
        have c_8 : ¬ ((nI j) : Int32) < e := c_8
        have hje : j = e.toNatClampNeg := Nat.le_antisymm hj (Nat.not_lt.mp fun q => c_8 (tnc_lt_of q))
        rw [hx, hje]
        refine g_iload_n C (pc := 23) dX3_power_23 rfl ?_
        exact g_iretD C R dX3_power_24 (Nat.le_refl _) (Nat.le_refl _) (rfl) rfl rfl
      · skip
        have c_8 : ((nI j) : Int32) < e := c_8
        have hje : j < e.toNatClampNeg := tnc_of_lt (by omega) c_8
        refine g_iload_n C (pc := 11) dX3_power_11 rfl ?_
        refine g_iload_n C (pc := 12) dX3_power_12 rfl ?_
        refine g_imul C (pc := 13) dX3_power_13 ?_
        refine g_iload_n C (pc := 14) dX3_power_14 rfl ?_
        refine g_irem C (pc := 15) dX3_power_15 hm ?_
        refine G.topi (fun x_16 e_x_16 => ?_)
        have e_x_16 : x_16 = jrem (x * b) m := e_x_16
        refine g_istore_n C (pc := 16) (L' := [some (.int b), some (.int e), some (.int m), some (.int x_16), some (.int (nI j))]) dX3_power_16 (by decide) rfl rfl ?_
        refine g_iinc C (pc := 17) (v := nI (j + 1)) (L' := [some (.int b), some (.int e), some (.int m), some (.int x_16), some (.int (nI (j + 1)))]) dX3_power_17 rfl (nI_inc _) (by decide) rfl rfl ?_
        refine g_goto C (pc := 20) (tgt := 5) dX3_power_20 (by decide) ?_
        refine G.mask [true, true, true, true, true] rfl ?_
        exact ih5 (j + 1) x_16 (by omega) (by rw [e_x_16, hx]; rfl) (by omega)
  refine G.mask [true, true, true, true, true] rfl ?_
  exact loop_5 _ 0 1 (Nat.zero_le _) (rfl) (Nat.lt_succ_self _)
theorem ds_X3_power : yX3_power.cls ≠ "java/lang/invoke/MethodHandle" ∧ yX3_power.cls ≠ "java/lang/invoke/VarHandle" ∧ (parseMethodDescriptor yX3_power.desc).map (fun d => d.parameters.length) = some 3 := by decide +kernel
set_option maxHeartbeats 4000000 in
set_option maxRecDepth 100000 in
theorem c_X3_four (l : Launch) (D : gD) (B : Nat × Nat) (h : gHp) (n : Nat) (v : Int32)  : Con l yX3_four (ws_ yX3_four cX3_four 1 (some .int)) ({ frames := 1, cells := 0, slots := 0, locals := 24 }) D B [.int v] h n (gdt (some (.int (four v))) h n) 0 0 := by
  refine Con.begin [some (.int v)] rfl rfl (Nat.le_of_ble_eq_true rfl) rfl rfl (fun X C R => ?_)
  refine g_iconst C (pc := 0) (v := 4) dX3_four_0 (by decide) ?_
  refine g_iload_n C (pc := 1) dX3_four_1 rfl ?_
  refine g_sipush C (pc := 2) (v := 2039) dX3_four_2 (by decide) ?_
  refine g_callSD C (pc := 5) [.int 4, .int v, .int 2039] [] dX3_four_5 (c_X3_power l D B h n 4 v 2039 (by decide)) (lw_S q1503 q1504 q87 q1505) ds_X3_power ⟨rfl, rfl⟩ ⟨Nat.le_of_ble_eq_true rfl, Nat.le_of_ble_eq_true rfl⟩ rfl rfl ⟨Nat.le_of_ble_eq_true rfl, Nat.le_of_ble_eq_true rfl⟩ (Nat.le_of_ble_eq_true rfl) rfl ?_
  exact g_iretD C R dX3_four_8 (Nat.le_refl _) (Nat.le_refl _) (rfl) rfl rfl
theorem ds_X3_four : yX3_four.cls ≠ "java/lang/invoke/MethodHandle" ∧ yX3_four.cls ≠ "java/lang/invoke/VarHandle" ∧ (parseMethodDescriptor yX3_four.desc).map (fun d => d.parameters.length) = some 1 := by decide +kernel
set_option maxHeartbeats 4000000 in
set_option maxRecDepth 100000 in
theorem c_X3_make (l : Launch) (D : gD) (B : Nat × Nat) (K : KS) (S : MS) (h : gHp) (n : Nat) (r : Int32) (hS : MOK S) : Con l yX3_make (ws_ yX3_make cX3_make 4 (some .int)) ({ frames := 1, cells := 0, slots := 0, locals := 23 }) D B [.ref 20, .int r] (wd K S h) n (gdt (some (.int ((m_make S r).2))) (wd K ((m_make S r).1) h) n) 0 0 := by
  have b12 := hS.c12.2
  have b13 := hS.c13.2
  have b14 := hS.c14.2
  have b16 := hS.c16.2
  have b29 := hS.c29.2
  have b30 := hS.c30.2
  have b31 := hS.c31.2
  have b48 := hS.c48.2
  have b49 := hS.c49.2
  have b50 := hS.c50.2
  have b51 := hS.c51.2
  have b77 := hS.c77.2
  have b78 := hS.c78.2
  have b79 := hS.c79.2
  have b82 := hS.c82.2
  refine Con.begin [some (.ref 20), some (.int r), none, none] rfl rfl (Nat.le_of_ble_eq_true rfl) rfl rfl (fun X C R => ?_)
  refine g_aload_n C (pc := 0) dX3_make_0 rfl rfl ?_
  refine g_iconst C (pc := 1) (v := 0) dX3_make_1 (by decide) ?_
  refine m_puti C 0 (pc := 2) dX3_make_2 rfl q1193 rfl rfl rfl ?_
  refine g_aload_n C (pc := 5) dX3_make_5 rfl rfl ?_
  refine m_geti C 13 (pc := 6) (v := nI (mN S 13)) dX3_make_6 rfl q1206 rfl hS.c13.1 ?_
  refine g_bipush C (pc := 9) (v := 40) dX3_make_9 (by decide) ?_
  refine g_icmp_eq C (pc := 11) (tgt := 45) dX3_make_11 (by decide) (fun c_11 => ?_) (fun c_11 => ?_)
  · skip
    have c_11 : (mN S 13) = 40 := (nI_eq (a := (mN S 13)) (b := 40) (by omega) (by omega)).mp c_11
    refine g_iconst C (pc := 45) (v := (-1)) dX3_make_45 (by decide) ?_
    exact g_iretD C R dX3_make_46 (Nat.le_refl _) (Nat.le_refl _) (by unfold m_make; first | (rw [if_pos (by  grind)] <;> first | rfl | (simp [mN_sI_ne, sI_2, p2i, b2i, *]; done) | grind) | (rw [if_neg (by  grind)] <;> first | rfl | (simp [mN_sI_ne, sI_2, p2i, b2i, *]; done) | grind)) (congrArg (fun z => wd K z h) (by unfold m_make; first | (rw [if_pos (by  grind)] <;> first | rfl | (simp [mN_sI_ne, sI_2, p2i, b2i, *]; done) | grind) | (rw [if_neg (by  grind)] <;> first | rfl | (simp [mN_sI_ne, sI_2, p2i, b2i, *]; done) | grind))) rfl
  · skip
    have c_11 : ¬ (mN S 13) = 40 := fun q => c_11 ((nI_eq (a := (mN S 13)) (b := 40) (by omega) (by omega)).mpr q)
    refine g_aload_n C (pc := 14) dX3_make_14 rfl rfl ?_
    refine g_iload_n C (pc := 15) dX3_make_15 rfl ?_
    refine g_callVD C (pc := 16) [.int r] [] dX3_make_16 (c_X3_isKey l D B K (sI S 0 0) h n r ) (lw_V q1492 q1494 qs38 q87 q1495) (wd_20 _ _ _) rfl rfl ds_X3_isKey ⟨rfl, rfl⟩ ⟨Nat.le_of_ble_eq_true rfl, Nat.le_of_ble_eq_true rfl⟩ rfl rfl ⟨Nat.le_of_ble_eq_true rfl, Nat.le_of_ble_eq_true rfl⟩ (Nat.le_of_ble_eq_true rfl) rfl ?_
    refine g_if_eq C (pc := 19) (tgt := 45) dX3_make_19 (by decide) (fun c_19 => ?_) (fun c_19 => ?_)
    · skip
      have c_19 : ¬ (isKey S r) := p2i_0.mp c_19
      refine g_iconst C (pc := 45) (v := (-1)) dX3_make_45 (by decide) ?_
      exact g_iretD C R dX3_make_46 (Nat.le_refl _) (Nat.le_refl _) (by unfold m_make; first | (rw [if_pos (by  grind)] <;> first | rfl | (simp [mN_sI_ne, sI_2, p2i, b2i, *]; done) | grind) | (rw [if_neg (by  grind)] <;> first | rfl | (simp [mN_sI_ne, sI_2, p2i, b2i, *]; done) | grind)) (congrArg (fun z => wd K z h) (by unfold m_make; first | (rw [if_pos (by  grind)] <;> first | rfl | (simp [mN_sI_ne, sI_2, p2i, b2i, *]; done) | grind) | (rw [if_neg (by  grind)] <;> first | rfl | (simp [mN_sI_ne, sI_2, p2i, b2i, *]; done) | grind))) rfl
    · skip
      have c_19 : (isKey S r) := p2i_n0.mp c_19
      have hr40 : vp_in r 40 := isKey.inr hS c_19
      refine g_aload_n C (pc := 22) dX3_make_22 rfl rfl ?_
      refine m_geta C 2 21 (pc := 23) dX3_make_23 (by decide) (fun _ => rfl) q1195 rfl ?_
      refine g_iload_n C (pc := 26) dX3_make_26 rfl ?_
      refine m_iald C (pc := 27) (v := (S.2.1 21) ((r).toNatClampNeg)) dX3_make_27 (by decide) rfl hr40 rfl ?_
      refine g_iconst C (pc := 28) (v := 1) dX3_make_28 (by decide) ?_
      refine g_icmp_ne C (pc := 29) (tgt := 45) dX3_make_29 (by decide) (fun c_29 => ?_) (fun c_29 => ?_)
      · skip
        have c_29 : ¬ (((S.2.1 21) ((r).toNatClampNeg)) : Int32) = 1 := c_29
        refine g_iconst C (pc := 45) (v := (-1)) dX3_make_45 (by decide) ?_
        exact g_iretD C R dX3_make_46 (Nat.le_refl _) (Nat.le_refl _) (by unfold m_make; first | (rw [if_pos (by  grind)] <;> first | rfl | (simp [mN_sI_ne, sI_2, p2i, b2i, *]; done) | grind) | (rw [if_neg (by  grind)] <;> first | rfl | (simp [mN_sI_ne, sI_2, p2i, b2i, *]; done) | grind)) (congrArg (fun z => wd K z h) (by unfold m_make; first | (rw [if_pos (by  grind)] <;> first | rfl | (simp [mN_sI_ne, sI_2, p2i, b2i, *]; done) | grind) | (rw [if_neg (by  grind)] <;> first | rfl | (simp [mN_sI_ne, sI_2, p2i, b2i, *]; done) | grind))) rfl
      · skip
        have c_29 : (((S.2.1 21) ((r).toNatClampNeg)) : Int32) = 1 := c_29
        refine g_aload_n C (pc := 32) dX3_make_32 rfl rfl ?_
        refine m_geti C 16 (pc := 33) (v := nI (mN S 16)) dX3_make_33 rfl q1209 rfl hS.c16.1 ?_
        refine g_iconst C (pc := 36) (v := 1) dX3_make_36 (by decide) ?_
        refine g_bipush C (pc := 37) (v := 40) dX3_make_37 (by decide) ?_
        refine g_callSD C (pc := 39) [.int (nI (mN S 16)), .int 1, .int 40] [] dX3_make_39 (c_X3_isIn l D B (wd K (sI S 0 0) h) n (nI (mN S 16)) 1 40 ) (lw_S q1458 q1459 q87 q1460) ds_X3_isIn ⟨rfl, rfl⟩ ⟨Nat.le_of_ble_eq_true rfl, Nat.le_of_ble_eq_true rfl⟩ rfl rfl ⟨Nat.le_of_ble_eq_true rfl, Nat.le_of_ble_eq_true rfl⟩ (Nat.le_of_ble_eq_true rfl) rfl ?_
        refine g_if_ne C (pc := 42) (tgt := 47) dX3_make_42 (by decide) (fun c_42 => ?_) (fun c_42 => ?_)
        · skip
          have c_42 : (isIn (nI (mN S 16)) 1 40) := p2i_n0.mp c_42
          refine g_iconst C (pc := 47) (v := 0) dX3_make_47 (by decide) ?_
          refine g_istore_n C (pc := 48) (L' := [some (.ref 20), some (.int r), some (.int 0), none]) dX3_make_48 (by decide) rfl rfl ?_
          refine g_iconst C (pc := 49) (v := 0) dX3_make_49 (by decide) ?_
          refine g_istore_n C (pc := 50) (L' := [some (.ref 20), some (.int r), some (.int 0), some (.int 0)]) dX3_make_50 (by decide) rfl rfl ?_
          have loop_51 : ∀ (d51 : Nat) (j : Nat) (x : Int32), (j ≤ (mN S 16)) → (x = hashT (S.2.1 31) j) → (mN S 16) - j < d51 → G X D B (wd K (sI S 0 0) h) n 0 0 [some (.ref 20), some (.int r), some (.int x), some (.int (nI j))] 51 [] := by
            intro d51
            induction d51 with
            | zero =>
              intro j x hj hx hm51
              exact absurd hm51 (Nat.not_lt_zero _)
            | succ d51 ih51 =>
              intro j x hj hx hm51
              refine g_iload_n C (pc := 51) dX3_make_51 rfl ?_
              refine g_aload_n C (pc := 52) dX3_make_52 rfl rfl ?_
              refine m_geti C 16 (pc := 53) (v := nI (mN S 16)) dX3_make_53 rfl q1209 rfl hS.c16.1 ?_
              refine g_icmp_ge C (pc := 56) (tgt := 86) dX3_make_56 (by decide) (fun c_56 => ?_) (fun c_56 => ?_)
              · skip
                have c_56 : (mN S 16) ≤ j := Nat.not_lt.mp fun q => c_56 ((nI_ltI (a := j) (b := (mN S 16)) (by omega) (by omega)).mpr q)
                refine g_aload_n C (pc := 86) dX3_make_86 rfl rfl ?_
                refine g_iconst C (pc := 87) (v := 0) dX3_make_87 (by decide) ?_
                refine m_puti C 16 (pc := 88) dX3_make_88 rfl q1209 rfl rfl rfl ?_
                refine g_aload_n C (pc := 91) dX3_make_91 rfl rfl ?_
                refine g_iconst C (pc := 92) (v := 2) dX3_make_92 (by decide) ?_
                refine g_bipush C (pc := 93) (v := 37) dX3_make_93 (by decide) ?_
                refine g_aload_n C (pc := 95) dX3_make_95 rfl rfl ?_
                refine m_geta C 3 22 (pc := 96) dX3_make_96 (by decide) (fun _ => rfl) q1196 rfl ?_
                refine g_iload_n C (pc := 99) dX3_make_99 rfl ?_
                refine m_iald C (pc := 100) (v := (S.2.1 22) ((r).toNatClampNeg)) dX3_make_100 (by decide) rfl hr40 rfl ?_
                refine g_imul C (pc := 101) dX3_make_101 ?_
                refine g_iload_n C (pc := 102) dX3_make_102 rfl ?_
                refine g_iadd C (pc := 103) dX3_make_103 ?_
                refine g_sipush C (pc := 104) (v := 1018) dX3_make_104 (by decide) ?_
                refine g_irem C (pc := 107) dX3_make_107 (by decide) ?_
                refine g_iconst C (pc := 108) (v := 1) dX3_make_108 (by decide) ?_
                refine g_iadd C (pc := 109) dX3_make_109 ?_
                refine g_iload_n C (pc := 110) dX3_make_110 rfl ?_
                refine g_callVD C (pc := 111) [.int 2, .int ((jrem ((37 * ((S.2.1 22) ((r).toNatClampNeg))) + x) 1018) + 1), .int r] [] dX3_make_111 (c_X3_add l D B K (sI (sI S 0 0) 16 0) h n 2 ((jrem ((37 * ((S.2.1 22) ((r).toNatClampNeg))) + x) 1018) + 1) r ((hS.setI 0 rfl).n16 (j := 0) (by omega)) (by show mN S 13 < 40; omega)) (lw_V q1469 q1471 qs36 q87 q1472) (wd_20 _ _ _) rfl rfl ds_X3_add ⟨rfl, rfl⟩ ⟨Nat.le_of_ble_eq_true rfl, Nat.le_of_ble_eq_true rfl⟩ rfl rfl ⟨Nat.le_of_ble_eq_true rfl, Nat.le_of_ble_eq_true rfl⟩ (Nat.le_of_ble_eq_true rfl) rfl ?_
                refine G.nmS (fun S_111 e_S_111 => ?_)
                exact g_iretD C R dX3_make_114 (Nat.le_refl _) (Nat.le_refl _) (by unfold m_make; first | (rw [if_pos (by  grind)] <;> first | rfl | (simp [mN_sI_ne, sI_2, p2i, b2i, *]; done) | grind) | (rw [if_neg (by  grind)] <;> first | rfl | (simp [mN_sI_ne, sI_2, p2i, b2i, *]; done) | grind)) (congrArg (fun z => wd K z h) (by unfold m_make; first | (rw [if_pos (by  grind)] <;> first | rfl | (simp [mN_sI_ne, sI_2, p2i, b2i, *]; done) | grind) | (rw [if_neg (by  grind)] <;> first | rfl | (simp [mN_sI_ne, sI_2, p2i, b2i, *]; done) | grind))) rfl
              · skip
                have c_56 : j < (mN S 16) := (nI_ltI (a := j) (b := (mN S 16)) (by omega) (by omega)).mp c_56
                refine g_sipush C (pc := 59) (v := 131) dX3_make_59 (by decide) ?_
                refine g_iload_n C (pc := 62) dX3_make_62 rfl ?_
                refine g_imul C (pc := 63) dX3_make_63 ?_
                refine g_aload_n C (pc := 64) dX3_make_64 rfl rfl ?_
                refine m_geta C 15 31 (pc := 65) dX3_make_65 (by decide) (fun _ => rfl) q1208 rfl ?_
                refine g_iload_n C (pc := 68) dX3_make_68 rfl ?_
                refine m_bald C (pc := 69) (v := n8 ((S.2.1 31) j)) dX3_make_69 (by decide) rfl (vp_in_nI (by omega) (by decide)) (congrArg n8 (gix (S.2.1 31) (by omega))) ?_
                refine g_sipush C (pc := 70) (v := 255) dX3_make_70 (by decide) ?_
                refine g_iand C (pc := 73) dX3_make_73 ?_
                refine g_iadd C (pc := 74) dX3_make_74 ?_
                refine g_sipush C (pc := 75) (v := 1019) dX3_make_75 (by decide) ?_
                refine g_irem C (pc := 78) dX3_make_78 (by decide) ?_
                refine G.topi (fun x_79 e_x_79 => ?_)
                have e_x_79 : x_79 = jrem ((131 * x) + ((n8 ((S.2.1 31) j)) &&& 255)) 1019 := e_x_79
                refine g_istore_n C (pc := 79) (L' := [some (.ref 20), some (.int r), some (.int x_79), some (.int (nI j))]) dX3_make_79 (by decide) rfl rfl ?_
                refine g_iinc C (pc := 80) (v := nI (j + 1)) (L' := [some (.ref 20), some (.int r), some (.int x_79), some (.int (nI (j + 1)))]) dX3_make_80 rfl (nI_inc _) (by decide) rfl rfl ?_
                refine g_goto C (pc := 83) (tgt := 51) dX3_make_83 (by decide) ?_
                refine G.mask [true, true, true, true] rfl ?_
                exact ih51 (j + 1) x_79 (by omega) (by rw [e_x_79, hx]; rfl) (by omega)
          refine G.mask [true, true, true, true] rfl ?_
          exact loop_51 _ 0 0 (Nat.zero_le _) (rfl) (Nat.lt_succ_self _)
        · skip
          have c_42 : ¬ (isIn (nI (mN S 16)) 1 40) := p2i_0.mp c_42
          refine g_iconst C (pc := 45) (v := (-1)) dX3_make_45 (by decide) ?_
          exact g_iretD C R dX3_make_46 (Nat.le_refl _) (Nat.le_refl _) (by unfold m_make; first | (rw [if_pos (by  grind)] <;> first | rfl | (simp [mN_sI_ne, sI_2, p2i, b2i, *]; done) | grind) | (rw [if_neg (by  grind)] <;> first | rfl | (simp [mN_sI_ne, sI_2, p2i, b2i, *]; done) | grind)) (congrArg (fun z => wd K z h) (by unfold m_make; first | (rw [if_pos (by  grind)] <;> first | rfl | (simp [mN_sI_ne, sI_2, p2i, b2i, *]; done) | grind) | (rw [if_neg (by  grind)] <;> first | rfl | (simp [mN_sI_ne, sI_2, p2i, b2i, *]; done) | grind))) rfl
theorem ds_X3_make : yX3_make.cls ≠ "java/lang/invoke/MethodHandle" ∧ yX3_make.cls ≠ "java/lang/invoke/VarHandle" ∧ (parseMethodDescriptor yX3_make.desc).map (fun d => d.parameters.length) = some 1 := by decide +kernel
set_option maxHeartbeats 4000000 in
set_option maxRecDepth 100000 in
theorem c_X3_open (l : Launch) (D : gD) (B : Nat × Nat) (K : KS) (S : MS) (h : gHp) (n : Nat) (k : Int32) (hS : MOK S) : Con l yX3_open (ws_ yX3_open cX3_open 2 (some .int)) ({ frames := 2, cells := 0, slots := 0, locals := 44 }) D B [.ref 20, .int k] (wd K S h) n (gdt (some (.int ((m_open S k).2))) (wd K ((m_open S k).1) h) n) 0 0 := by
  have b12 := hS.c12.2
  have b13 := hS.c13.2
  have b14 := hS.c14.2
  have b16 := hS.c16.2
  have b29 := hS.c29.2
  have b30 := hS.c30.2
  have b31 := hS.c31.2
  have b48 := hS.c48.2
  have b49 := hS.c49.2
  have b50 := hS.c50.2
  have b51 := hS.c51.2
  have b77 := hS.c77.2
  have b78 := hS.c78.2
  have b79 := hS.c79.2
  have b82 := hS.c82.2
  refine Con.begin [some (.ref 20), some (.int k)] rfl rfl (Nat.le_of_ble_eq_true rfl) rfl rfl (fun X C R => ?_)
  refine g_aload_n C (pc := 0) dX3_open_0 rfl rfl ?_
  refine g_aload_n C (pc := 1) dX3_open_1 rfl rfl ?_
  refine g_iload_n C (pc := 2) dX3_open_2 rfl ?_
  refine g_callVD C (pc := 3) [.int k] [.ref 20] dX3_open_3 (c_X3_isKey l D B K S h n k ) (lw_V q1492 q1494 qs38 q87 q1495) (wd_20 _ _ _) rfl rfl ds_X3_isKey ⟨rfl, rfl⟩ ⟨Nat.le_of_ble_eq_true rfl, Nat.le_of_ble_eq_true rfl⟩ rfl rfl ⟨Nat.le_of_ble_eq_true rfl, Nat.le_of_ble_eq_true rfl⟩ (Nat.le_of_ble_eq_true rfl) rfl ?_
  refine g_if_eq C (pc := 6) (tgt := 13) dX3_open_6 (by decide) (fun c_6 => ?_) (fun c_6 => ?_)
  · skip
    have c_6 : ¬ (isKey S k) := p2i_0.mp c_6
    refine g_iconst C (pc := 13) (v := 1) dX3_open_13 (by decide) ?_
    refine m_puti C 0 (pc := 14) dX3_open_14 rfl q1193 rfl rfl rfl ?_
    refine g_aload_n C (pc := 17) dX3_open_17 rfl rfl ?_
    refine m_geti C 0 (pc := 18) (v := 1) dX3_open_18 rfl q1193 rfl rfl ?_
    refine g_if_le C (pc := 21) (tgt := 28) dX3_open_21 (by decide) (fun c_21 => absurd c_21 (by decide)) (fun c_21 => ?_)
    refine g_iconst C (pc := 24) (v := 0) dX3_open_24 (by decide) ?_
    refine g_goto C (pc := 25) (tgt := 37) dX3_open_25 (by decide) ?_
    exact g_iretD C R dX3_open_37 (Nat.le_refl _) (Nat.le_refl _) (by unfold m_open; first | (rw [if_pos (by  grind)] <;> first | rfl | (simp [mN_sI_ne, sI_2, p2i, b2i, *]; done) | grind) | (rw [if_neg (by  grind)] <;> first | rfl | (simp [mN_sI_ne, sI_2, p2i, b2i, *]; done) | grind)) (congrArg (fun z => wd K z h) (by unfold m_open; first | (rw [if_pos (by  grind)] <;> first | rfl | (simp [mN_sI_ne, sI_2, p2i, b2i, *]; done) | grind) | (rw [if_neg (by  grind)] <;> first | rfl | (simp [mN_sI_ne, sI_2, p2i, b2i, *]; done) | grind))) rfl
  · skip
    have c_6 : (isKey S k) := p2i_n0.mp c_6
    refine g_iconst C (pc := 9) (v := 0) dX3_open_9 (by decide) ?_
    refine g_goto C (pc := 10) (tgt := 14) dX3_open_10 (by decide) ?_
    refine m_puti C 0 (pc := 14) dX3_open_14 rfl q1193 rfl rfl rfl ?_
    refine g_aload_n C (pc := 17) dX3_open_17 rfl rfl ?_
    refine m_geti C 0 (pc := 18) (v := 0) dX3_open_18 rfl q1193 rfl rfl ?_
    refine g_if_le C (pc := 21) (tgt := 28) dX3_open_21 (by decide) (fun c_21 => ?_) (fun c_21 => absurd c_21 (by decide))
    refine g_aload_n C (pc := 28) dX3_open_28 rfl rfl ?_
    refine m_geta C 3 22 (pc := 29) dX3_open_29 (by decide) (fun _ => rfl) q1196 rfl ?_
    refine g_iload_n C (pc := 32) dX3_open_32 rfl ?_
    refine m_iald C (pc := 33) (v := (S.2.1 22) ((k).toNatClampNeg)) dX3_open_33 (by decide) rfl (isKey.inr hS (by assumption)) rfl ?_
    refine g_callSD C (pc := 34) [.int ((S.2.1 22) ((k).toNatClampNeg))] [] dX3_open_34 (c_X3_four l D B (wd K (sI S 0 0) h) n ((S.2.1 22) ((k).toNatClampNeg)) ) (lw_S q1500 q1501 q87 q1502) ds_X3_four ⟨rfl, rfl⟩ ⟨Nat.le_of_ble_eq_true rfl, Nat.le_of_ble_eq_true rfl⟩ rfl rfl ⟨Nat.le_of_ble_eq_true rfl, Nat.le_of_ble_eq_true rfl⟩ (Nat.le_of_ble_eq_true rfl) rfl ?_
    exact g_iretD C R dX3_open_37 (Nat.le_refl _) (Nat.le_refl _) (by unfold m_open; first | (rw [if_pos (by  grind)] <;> first | rfl | (simp [mN_sI_ne, sI_2, p2i, b2i, *]; done) | grind) | (rw [if_neg (by  grind)] <;> first | rfl | (simp [mN_sI_ne, sI_2, p2i, b2i, *]; done) | grind)) (congrArg (fun z => wd K z h) (by unfold m_open; first | (rw [if_pos (by  grind)] <;> first | rfl | (simp [mN_sI_ne, sI_2, p2i, b2i, *]; done) | grind) | (rw [if_neg (by  grind)] <;> first | rfl | (simp [mN_sI_ne, sI_2, p2i, b2i, *]; done) | grind))) rfl
theorem ds_X3_open : yX3_open.cls ≠ "java/lang/invoke/MethodHandle" ∧ yX3_open.cls ≠ "java/lang/invoke/VarHandle" ∧ (parseMethodDescriptor yX3_open.desc).map (fun d => d.parameters.length) = some 1 := by decide +kernel
set_option maxHeartbeats 4000000 in
set_option maxRecDepth 100000 in
theorem c_X3_has (l : Launch) (D : gD) (B : Nat × Nat) (K : KS) (S : MS) (h : gHp) (n : Nat) (a : Int32) (b : Int32) (c : Int32) (hS : MOK S) : Con l yX3_has (ws_ yX3_has cX3_has 6 (some .boolean)) ({ frames := 0, cells := 0, slots := 0, locals := 0 }) D B [.ref 20, .int a, .int b, .int c] (wd K S h) n (gdt (some (.int (b2i (hasN S a b c)))) (wd K (S) h) n) 0 0 := by
  have b12 := hS.c12.2
  have b13 := hS.c13.2
  have b14 := hS.c14.2
  have b16 := hS.c16.2
  have b29 := hS.c29.2
  have b30 := hS.c30.2
  have b31 := hS.c31.2
  have b48 := hS.c48.2
  have b49 := hS.c49.2
  have b50 := hS.c50.2
  have b51 := hS.c51.2
  have b77 := hS.c77.2
  have b78 := hS.c78.2
  have b79 := hS.c79.2
  have b82 := hS.c82.2
  refine Con.begin [some (.ref 20), some (.int a), some (.int b), some (.int c), none, none] rfl rfl (Nat.le_of_ble_eq_true rfl) rfl rfl (fun X C R => ?_)
  refine g_iconst C (pc := 0) (v := 0) dX3_has_0 (by decide) ?_
  refine g_istore C (pc := 1) (L' := [some (.ref 20), some (.int a), some (.int b), some (.int c), some (.int 0), none]) dX3_has_1 (by decide) rfl rfl ?_
  refine g_iconst C (pc := 3) (v := 0) dX3_has_3 (by decide) ?_
  refine g_istore C (pc := 4) (L' := [some (.ref 20), some (.int a), some (.int b), some (.int c), some (.int 0), some (.int 0)]) dX3_has_4 (by decide) rfl rfl ?_
  have loop_6 : ∀ (d6 : Nat) (j : Nat) (x : Int32), (j ≤ (mN S 14)) → (x = b2i (hasB S.2.1 a b c j)) → (mN S 14) - j < d6 → G X D B (wd K S h) n 0 0 [some (.ref 20), some (.int a), some (.int b), some (.int c), some (.int x), some (.int (nI j))] 6 [] := by
    intro d6
    induction d6 with
    | zero =>
      intro j x hj hx hm6
      exact absurd hm6 (Nat.not_lt_zero _)
    | succ d6 ih6 =>
      intro j x hj hx hm6
      refine g_iload C (pc := 6) dX3_has_6 rfl ?_
      refine g_aload_n C (pc := 8) dX3_has_8 rfl rfl ?_
      refine m_geti C 14 (pc := 9) (v := nI (mN S 14)) dX3_has_9 rfl q1207 rfl hS.c14.1 ?_
      refine g_icmp_ge C (pc := 12) (tgt := 63) dX3_has_12 (by decide) (fun c_12 => ?_) (fun c_12 => ?_)
      · skip
        have c_12 : (mN S 14) ≤ j := Nat.not_lt.mp fun q => c_12 ((nI_ltI (a := j) (b := (mN S 14)) (by omega) (by omega)).mpr q)
        have hje : j = (mN S 14) := by omega
        subst hje
        refine g_iload C (pc := 63) dX3_has_63 rfl ?_
        exact g_zretD C (b2i_nb _) R dX3_has_65 (Nat.le_refl _) (Nat.le_refl _) (hx) rfl rfl
      · skip
        have c_12 : j < (mN S 14) := (nI_ltI (a := j) (b := (mN S 14)) (by omega) (by omega)).mp c_12
        refine g_aload_n C (pc := 15) dX3_has_15 rfl rfl ?_
        refine m_geta C 7 26 (pc := 16) dX3_has_16 (by decide) (fun _ => rfl) q1200 rfl ?_
        refine g_iload C (pc := 19) dX3_has_19 rfl ?_
        refine m_iald C (pc := 21) (v := (S.2.1 26) j) dX3_has_21 (by decide) rfl (vp_in_nI (by omega) (by decide)) (gix (S.2.1 26) (by omega)) ?_
        refine g_iload_n C (pc := 22) dX3_has_22 rfl ?_
        refine g_icmp_ne C (pc := 23) (tgt := 57) dX3_has_23 (by decide) (fun c_23 => ?_) (fun c_23 => ?_)
        · skip
          have c_23 : ¬ (((S.2.1 26) j) : Int32) = a := c_23
          refine g_iinc C (pc := 57) (v := nI (j + 1)) (L' := [some (.ref 20), some (.int a), some (.int b), some (.int c), some (.int x), some (.int (nI (j + 1)))]) dX3_has_57 rfl (nI_inc _) (by decide) rfl rfl ?_
          refine g_goto C (pc := 60) (tgt := 6) dX3_has_60 (by decide) ?_
          refine G.mask [true, true, true, true, true, true] rfl ?_
          exact ih6 (j + 1) x (by omega) (by simp only [hasB]; first | (rw [if_pos ⟨c_23, c_34, c_45⟩, e_x_55]; exact nb_b2i _) | (rw [if_neg (by grind)]; exact hx)) (by omega)
        · skip
          have c_23 : (((S.2.1 26) j) : Int32) = a := c_23
          refine g_aload_n C (pc := 26) dX3_has_26 rfl rfl ?_
          refine m_geta C 8 27 (pc := 27) dX3_has_27 (by decide) (fun _ => rfl) q1201 rfl ?_
          refine g_iload C (pc := 30) dX3_has_30 rfl ?_
          refine m_iald C (pc := 32) (v := (S.2.1 27) j) dX3_has_32 (by decide) rfl (vp_in_nI (by omega) (by decide)) (gix (S.2.1 27) (by omega)) ?_
          refine g_iload_n C (pc := 33) dX3_has_33 rfl ?_
          refine g_icmp_ne C (pc := 34) (tgt := 57) dX3_has_34 (by decide) (fun c_34 => ?_) (fun c_34 => ?_)
          · skip
            have c_34 : ¬ (((S.2.1 27) j) : Int32) = b := c_34
            refine g_iinc C (pc := 57) (v := nI (j + 1)) (L' := [some (.ref 20), some (.int a), some (.int b), some (.int c), some (.int x), some (.int (nI (j + 1)))]) dX3_has_57 rfl (nI_inc _) (by decide) rfl rfl ?_
            refine g_goto C (pc := 60) (tgt := 6) dX3_has_60 (by decide) ?_
            refine G.mask [true, true, true, true, true, true] rfl ?_
            exact ih6 (j + 1) x (by omega) (by simp only [hasB]; first | (rw [if_pos ⟨c_23, c_34, c_45⟩, e_x_55]; exact nb_b2i _) | (rw [if_neg (by grind)]; exact hx)) (by omega)
          · skip
            have c_34 : (((S.2.1 27) j) : Int32) = b := c_34
            refine g_aload_n C (pc := 37) dX3_has_37 rfl rfl ?_
            refine m_geta C 9 28 (pc := 38) dX3_has_38 (by decide) (fun _ => rfl) q1202 rfl ?_
            refine g_iload C (pc := 41) dX3_has_41 rfl ?_
            refine m_iald C (pc := 43) (v := (S.2.1 28) j) dX3_has_43 (by decide) rfl (vp_in_nI (by omega) (by decide)) (gix (S.2.1 28) (by omega)) ?_
            refine g_iload_n C (pc := 44) dX3_has_44 rfl ?_
            refine g_icmp_gt C (pc := 45) (tgt := 57) dX3_has_45 (by decide) (fun c_45 => ?_) (fun c_45 => ?_)
            · skip
              have c_45 : ((c) : Int32) < ((S.2.1 28) j) := c_45
              refine g_iinc C (pc := 57) (v := nI (j + 1)) (L' := [some (.ref 20), some (.int a), some (.int b), some (.int c), some (.int x), some (.int (nI (j + 1)))]) dX3_has_57 rfl (nI_inc _) (by decide) rfl rfl ?_
              refine g_goto C (pc := 60) (tgt := 6) dX3_has_60 (by decide) ?_
              refine G.mask [true, true, true, true, true, true] rfl ?_
              exact ih6 (j + 1) x (by omega) (by simp only [hasB]; first | (rw [if_pos ⟨c_23, c_34, c_45⟩, e_x_55]; exact nb_b2i _) | (rw [if_neg (by grind)]; exact hx)) (by omega)
            · skip
              have c_45 : ¬ ((c) : Int32) < ((S.2.1 28) j) := c_45
              refine g_aload_n C (pc := 48) dX3_has_48 rfl rfl ?_
              refine m_geta C 10 29 (pc := 49) dX3_has_49 (by decide) (fun _ => rfl) q1203 rfl ?_
              refine g_iload C (pc := 52) dX3_has_52 rfl ?_
              refine m_zald C (pc := 54) (v := nb ((S.2.1 29) j)) dX3_has_54 (by decide) rfl (vp_in_nI (by omega) (by decide)) (congrArg nb (gix (S.2.1 29) (by omega))) ?_
              refine G.topi (fun x_55 e_x_55 => ?_)
              have e_x_55 : x_55 = nb ((S.2.1 29) j) := e_x_55
              refine g_istore C (pc := 55) (L' := [some (.ref 20), some (.int a), some (.int b), some (.int c), some (.int x_55), some (.int (nI j))]) dX3_has_55 (by decide) rfl rfl ?_
              refine g_iinc C (pc := 57) (v := nI (j + 1)) (L' := [some (.ref 20), some (.int a), some (.int b), some (.int c), some (.int x_55), some (.int (nI (j + 1)))]) dX3_has_57 rfl (nI_inc _) (by decide) rfl rfl ?_
              refine g_goto C (pc := 60) (tgt := 6) dX3_has_60 (by decide) ?_
              refine G.mask [true, true, true, true, true, true] rfl ?_
              exact ih6 (j + 1) x_55 (by omega) (by simp only [hasB]; first | (rw [if_pos ⟨c_23, c_34, c_45⟩, e_x_55]; exact nb_b2i _) | (rw [if_neg (by grind)]; exact hx)) (by omega)
  refine G.mask [true, true, true, true, true, true] rfl ?_
  exact loop_6 _ 0 0 (Nat.zero_le _) (rfl) (Nat.lt_succ_self _)
theorem ds_X3_has : yX3_has.cls ≠ "java/lang/invoke/MethodHandle" ∧ yX3_has.cls ≠ "java/lang/invoke/VarHandle" ∧ (parseMethodDescriptor yX3_has.desc).map (fun d => d.parameters.length) = some 3 := by decide +kernel
set_option maxHeartbeats 4000000 in
set_option maxRecDepth 100000 in
theorem c_X3_hands (l : Launch) (D : gD) (B : Nat × Nat) (K : KS) (S : MS) (h : gHp) (n : Nat) (a : Int32) (b : Int32) (g : Int32) (hS : MOK S) (hg : (mN S 14) < 600) (hz : nb g = g) : Con l yX3_hands (ws_ yX3_hands cX3_hands 4 (some .boolean)) ({ frames := 1, cells := 0, slots := 0, locals := 25 }) D B [.ref 20, .int a, .int b, .int g] (wd K S h) n (gdt (some (.int (b2i (m_hands S a b g).2))) (wd K ((m_hands S a b g).1) h) n) 0 0 := by
  have b12 := hS.c12.2
  have b13 := hS.c13.2
  have b14 := hS.c14.2
  have b16 := hS.c16.2
  have b29 := hS.c29.2
  have b30 := hS.c30.2
  have b31 := hS.c31.2
  have b48 := hS.c48.2
  have b49 := hS.c49.2
  have b50 := hS.c50.2
  have b51 := hS.c51.2
  have b77 := hS.c77.2
  have b78 := hS.c78.2
  have b79 := hS.c79.2
  have b82 := hS.c82.2
  refine Con.begin [some (.ref 20), some (.int a), some (.int b), some (.int g)] rfl rfl (Nat.le_of_ble_eq_true rfl) rfl rfl (fun X C R => ?_)
  refine g_aload_n C (pc := 0) dX3_hands_0 rfl rfl ?_
  refine g_iconst C (pc := 1) (v := 0) dX3_hands_1 (by decide) ?_
  refine m_puti C 0 (pc := 2) dX3_hands_2 rfl q1193 rfl rfl rfl ?_
  refine g_aload_n C (pc := 5) dX3_hands_5 rfl rfl ?_
  refine g_iload_n C (pc := 6) dX3_hands_6 rfl ?_
  refine g_callVD C (pc := 7) [.int a] [] dX3_hands_7 (c_X3_isHolder l D B K (sI S 0 0) h n a ) (lw_V q1514 q1516 qs40 q87 q1517) (wd_20 _ _ _) rfl rfl ds_X3_isHolder ⟨rfl, rfl⟩ ⟨Nat.le_of_ble_eq_true rfl, Nat.le_of_ble_eq_true rfl⟩ rfl rfl ⟨Nat.le_of_ble_eq_true rfl, Nat.le_of_ble_eq_true rfl⟩ (Nat.le_of_ble_eq_true rfl) rfl ?_
  refine g_if_eq C (pc := 10) (tgt := 35) dX3_hands_10 (by decide) (fun c_10 => ?_) (fun c_10 => ?_)
  · skip
    have c_10 : ¬ (isHolder S a) := p2i_0.mp c_10
    refine g_iconst C (pc := 35) (v := 0) dX3_hands_35 (by decide) ?_
    exact g_zretD C (b2i_nb _) R dX3_hands_36 (Nat.le_refl _) (Nat.le_refl _) (by unfold m_hands; first | (rw [if_pos (by  grind)] <;> first | rfl | (simp [mN_sI_ne, sI_2, p2i, b2i, *]; done) | grind) | (rw [if_neg (by  grind)] <;> first | rfl | (simp [mN_sI_ne, sI_2, p2i, b2i, *]; done) | grind)) (congrArg (fun z => wd K z h) (by unfold m_hands; first | (rw [if_pos (by  grind)] <;> first | rfl | (simp [mN_sI_ne, sI_2, p2i, b2i, *]; done) | grind) | (rw [if_neg (by  grind)] <;> first | rfl | (simp [mN_sI_ne, sI_2, p2i, b2i, *]; done) | grind))) rfl
  · skip
    have c_10 : (isHolder S a) := p2i_n0.mp c_10
    refine g_aload_n C (pc := 13) dX3_hands_13 rfl rfl ?_
    refine g_iload_n C (pc := 14) dX3_hands_14 rfl ?_
    refine g_callVD C (pc := 15) [.int b] [] dX3_hands_15 (c_X3_isKey l D B K (sI S 0 0) h n b ) (lw_V q1492 q1494 qs38 q87 q1495) (wd_20 _ _ _) rfl rfl ds_X3_isKey ⟨rfl, rfl⟩ ⟨Nat.le_of_ble_eq_true rfl, Nat.le_of_ble_eq_true rfl⟩ rfl rfl ⟨Nat.le_of_ble_eq_true rfl, Nat.le_of_ble_eq_true rfl⟩ (Nat.le_of_ble_eq_true rfl) rfl ?_
    refine g_if_eq C (pc := 18) (tgt := 35) dX3_hands_18 (by decide) (fun c_18 => ?_) (fun c_18 => ?_)
    · skip
      have c_18 : ¬ (isKey S b) := p2i_0.mp c_18
      refine g_iconst C (pc := 35) (v := 0) dX3_hands_35 (by decide) ?_
      exact g_zretD C (b2i_nb _) R dX3_hands_36 (Nat.le_refl _) (Nat.le_refl _) (by unfold m_hands; first | (rw [if_pos (by  grind)] <;> first | rfl | (simp [mN_sI_ne, sI_2, p2i, b2i, *]; done) | grind) | (rw [if_neg (by  grind)] <;> first | rfl | (simp [mN_sI_ne, sI_2, p2i, b2i, *]; done) | grind)) (congrArg (fun z => wd K z h) (by unfold m_hands; first | (rw [if_pos (by  grind)] <;> first | rfl | (simp [mN_sI_ne, sI_2, p2i, b2i, *]; done) | grind) | (rw [if_neg (by  grind)] <;> first | rfl | (simp [mN_sI_ne, sI_2, p2i, b2i, *]; done) | grind))) rfl
    · skip
      have c_18 : (isKey S b) := p2i_n0.mp c_18
      refine g_aload_n C (pc := 21) dX3_hands_21 rfl rfl ?_
      refine g_iload_n C (pc := 22) dX3_hands_22 rfl ?_
      refine g_iload_n C (pc := 23) dX3_hands_23 rfl ?_
      refine g_aload_n C (pc := 24) dX3_hands_24 rfl rfl ?_
      refine m_geti C 1 (pc := 25) (v := S.1 1) dX3_hands_25 rfl q1194 rfl rfl ?_
      refine g_callVD C (pc := 28) [.int a, .int b, .int (S.1 1)] [] dX3_hands_28 (c_X3_has l D B K (sI S 0 0) h n a b (S.1 1) (hS.setI 0 rfl)) (lw_V q1518 q1520 qs41 q87 q1521) (wd_20 _ _ _) rfl rfl ds_X3_has ⟨rfl, rfl⟩ ⟨Nat.le_of_ble_eq_true rfl, Nat.le_of_ble_eq_true rfl⟩ rfl rfl ⟨Nat.le_of_ble_eq_true rfl, Nat.le_of_ble_eq_true rfl⟩ (Nat.le_of_ble_eq_true rfl) rfl ?_
      refine g_iload_n C (pc := 31) dX3_hands_31 rfl ?_
      refine g_icmp_ne C (pc := 32) (tgt := 37) dX3_hands_32 (by decide) (fun c_32 => ?_) (fun c_32 => ?_)
      · skip
        have c_32 : ¬ ((b2i (hasN S a b (S.1 1))) : Int32) = g := c_32
        refine g_aload_n C (pc := 37) dX3_hands_37 rfl rfl ?_
        refine m_geta C 7 26 (pc := 38) dX3_hands_38 (by decide) (fun _ => rfl) q1200 rfl ?_
        refine g_aload_n C (pc := 41) dX3_hands_41 rfl rfl ?_
        refine m_geti C 14 (pc := 42) (v := nI (mN S 14)) dX3_hands_42 rfl q1207 rfl hS.c14.1 ?_
        refine g_iload_n C (pc := 45) dX3_hands_45 rfl ?_
        refine m_iast C (pc := 46) (j := (mN S 14)) dX3_hands_46 (by decide) rfl (vp_in_nI (by omega) (by decide)) (nI_clamp (by omega)) ?_
        refine g_aload_n C (pc := 47) dX3_hands_47 rfl rfl ?_
        refine m_geta C 8 27 (pc := 48) dX3_hands_48 (by decide) (fun _ => rfl) q1201 rfl ?_
        refine g_aload_n C (pc := 51) dX3_hands_51 rfl rfl ?_
        refine m_geti C 14 (pc := 52) (v := nI (mN S 14)) dX3_hands_52 rfl q1207 rfl hS.c14.1 ?_
        refine g_iload_n C (pc := 55) dX3_hands_55 rfl ?_
        refine m_iast C (pc := 56) (j := (mN S 14)) dX3_hands_56 (by decide) rfl (vp_in_nI (by omega) (by decide)) (nI_clamp (by omega)) ?_
        refine g_aload_n C (pc := 57) dX3_hands_57 rfl rfl ?_
        refine m_geta C 9 28 (pc := 58) dX3_hands_58 (by decide) (fun _ => rfl) q1202 rfl ?_
        refine g_aload_n C (pc := 61) dX3_hands_61 rfl rfl ?_
        refine m_geti C 14 (pc := 62) (v := nI (mN S 14)) dX3_hands_62 rfl q1207 rfl hS.c14.1 ?_
        refine g_aload_n C (pc := 65) dX3_hands_65 rfl rfl ?_
        refine m_geti C 1 (pc := 66) (v := S.1 1) dX3_hands_66 rfl q1194 rfl rfl ?_
        refine m_iast C (pc := 69) (j := (mN S 14)) dX3_hands_69 (by decide) rfl (vp_in_nI (by omega) (by decide)) (nI_clamp (by omega)) ?_
        refine g_aload_n C (pc := 70) dX3_hands_70 rfl rfl ?_
        refine m_geta C 10 29 (pc := 71) dX3_hands_71 (by decide) (fun _ => rfl) q1203 rfl ?_
        refine g_aload_n C (pc := 74) dX3_hands_74 rfl rfl ?_
        refine m_geti C 14 (pc := 75) (v := nI (mN S 14)) dX3_hands_75 rfl q1207 rfl hS.c14.1 ?_
        refine g_iload_n C (pc := 78) dX3_hands_78 rfl ?_
        refine m_zast C (pc := 79) (j := (mN S 14)) dX3_hands_79 (by decide) rfl (vp_in_nI (by omega) (by decide)) (nI_clamp (by omega)) hz ?_
        refine g_aload_n C (pc := 80) dX3_hands_80 rfl rfl ?_
        refine g_dup C (pc := 81) dX3_hands_81 rfl ?_
        refine m_geti C 14 (pc := 82) (v := nI (mN S 14)) dX3_hands_82 rfl q1207 rfl hS.c14.1 ?_
        refine g_iconst C (pc := 85) (v := 1) dX3_hands_85 (by decide) ?_
        refine g_iadd C (pc := 86) dX3_hands_86 ?_
        refine G.topc (nI_1 _) ?_
        refine m_puti C 14 (pc := 87) dX3_hands_87 rfl q1207 rfl rfl rfl ?_
        refine g_iconst C (pc := 90) (v := 1) dX3_hands_90 (by decide) ?_
        exact g_zretD C (b2i_nb _) R dX3_hands_91 (Nat.le_refl _) (Nat.le_refl _) (by unfold m_hands; first | (rw [if_pos (by  grind)] <;> first | rfl | (simp [mN_sI_ne, sI_2, p2i, b2i, *]; done) | grind) | (rw [if_neg (by  grind)] <;> first | rfl | (simp [mN_sI_ne, sI_2, p2i, b2i, *]; done) | grind)) (congrArg (fun z => wd K z h) (by unfold m_hands; first | (rw [if_pos (by  grind)] <;> first | rfl | (simp [mN_sI_ne, sI_2, p2i, b2i, *]; done) | grind) | (rw [if_neg (by  grind)] <;> first | rfl | (simp [mN_sI_ne, sI_2, p2i, b2i, *]; done) | grind))) rfl
      · skip
        have c_32 : ((b2i (hasN S a b (S.1 1))) : Int32) = g := c_32
        refine g_iconst C (pc := 35) (v := 0) dX3_hands_35 (by decide) ?_
        exact g_zretD C (b2i_nb _) R dX3_hands_36 (Nat.le_refl _) (Nat.le_refl _) (by unfold m_hands; first | (rw [if_pos (by  grind)] <;> first | rfl | (simp [mN_sI_ne, sI_2, p2i, b2i, *]; done) | grind) | (rw [if_neg (by  grind)] <;> first | rfl | (simp [mN_sI_ne, sI_2, p2i, b2i, *]; done) | grind)) (congrArg (fun z => wd K z h) (by unfold m_hands; first | (rw [if_pos (by  grind)] <;> first | rfl | (simp [mN_sI_ne, sI_2, p2i, b2i, *]; done) | grind) | (rw [if_neg (by  grind)] <;> first | rfl | (simp [mN_sI_ne, sI_2, p2i, b2i, *]; done) | grind))) rfl
theorem ds_X3_hands : yX3_hands.cls ≠ "java/lang/invoke/MethodHandle" ∧ yX3_hands.cls ≠ "java/lang/invoke/VarHandle" ∧ (parseMethodDescriptor yX3_hands.desc).map (fun d => d.parameters.length) = some 3 := by decide +kernel
set_option maxHeartbeats 4000000 in
set_option maxRecDepth 100000 in
theorem c_X3_give (l : Launch) (D : gD) (B : Nat × Nat) (K : KS) (S : MS) (h : gHp) (n : Nat) (a : Int32) (b : Int32) (hS : MOK S) (hg : (mN S 14) < 600) : Con l yX3_give (ws_ yX3_give cX3_give 3 (some .boolean)) ({ frames := 2, cells := 0, slots := 0, locals := 48 }) D B [.ref 20, .int a, .int b] (wd K S h) n (gdt (some (.int (b2i (m_hands S a b 1).2))) (wd K ((m_hands S a b 1).1) h) n) 0 0 := by
  have b12 := hS.c12.2
  have b13 := hS.c13.2
  have b14 := hS.c14.2
  have b16 := hS.c16.2
  have b29 := hS.c29.2
  have b30 := hS.c30.2
  have b31 := hS.c31.2
  have b48 := hS.c48.2
  have b49 := hS.c49.2
  have b50 := hS.c50.2
  have b51 := hS.c51.2
  have b77 := hS.c77.2
  have b78 := hS.c78.2
  have b79 := hS.c79.2
  have b82 := hS.c82.2
  refine Con.begin [some (.ref 20), some (.int a), some (.int b)] rfl rfl (Nat.le_of_ble_eq_true rfl) rfl rfl (fun X C R => ?_)
  refine g_aload_n C (pc := 0) dX3_give_0 rfl rfl ?_
  refine g_iload_n C (pc := 1) dX3_give_1 rfl ?_
  refine g_iload_n C (pc := 2) dX3_give_2 rfl ?_
  refine g_iconst C (pc := 3) (v := 1) dX3_give_3 (by decide) ?_
  refine g_callVD C (pc := 4) [.int a, .int b, .int 1] [] dX3_give_4 (c_X3_hands l D B K S h n a b 1 hS hg rfl) (lw_V q1510 q1512 qs39 q87 q1513) (wd_20 _ _ _) rfl rfl ds_X3_hands ⟨rfl, rfl⟩ ⟨Nat.le_of_ble_eq_true rfl, Nat.le_of_ble_eq_true rfl⟩ rfl rfl ⟨Nat.le_of_ble_eq_true rfl, Nat.le_of_ble_eq_true rfl⟩ (Nat.le_of_ble_eq_true rfl) rfl ?_
  refine G.nmS (fun S_4 e_S_4 => ?_)
  exact g_zretD C (b2i_nb _) R dX3_give_7 (Nat.le_refl _) (Nat.le_refl _) (rfl) (congrArg (fun z => wd K z h) (e_S_4)) rfl
theorem ds_X3_give : yX3_give.cls ≠ "java/lang/invoke/MethodHandle" ∧ yX3_give.cls ≠ "java/lang/invoke/VarHandle" ∧ (parseMethodDescriptor yX3_give.desc).map (fun d => d.parameters.length) = some 2 := by decide +kernel
set_option maxHeartbeats 4000000 in
set_option maxRecDepth 100000 in
theorem c_X3_take (l : Launch) (D : gD) (B : Nat × Nat) (K : KS) (S : MS) (h : gHp) (n : Nat) (a : Int32) (b : Int32) (hS : MOK S) (hg : (mN S 14) < 600) : Con l yX3_take (ws_ yX3_take cX3_take 3 (some .boolean)) ({ frames := 2, cells := 0, slots := 0, locals := 48 }) D B [.ref 20, .int a, .int b] (wd K S h) n (gdt (some (.int (b2i (m_hands S a b 0).2))) (wd K ((m_hands S a b 0).1) h) n) 0 0 := by
  have b12 := hS.c12.2
  have b13 := hS.c13.2
  have b14 := hS.c14.2
  have b16 := hS.c16.2
  have b29 := hS.c29.2
  have b30 := hS.c30.2
  have b31 := hS.c31.2
  have b48 := hS.c48.2
  have b49 := hS.c49.2
  have b50 := hS.c50.2
  have b51 := hS.c51.2
  have b77 := hS.c77.2
  have b78 := hS.c78.2
  have b79 := hS.c79.2
  have b82 := hS.c82.2
  refine Con.begin [some (.ref 20), some (.int a), some (.int b)] rfl rfl (Nat.le_of_ble_eq_true rfl) rfl rfl (fun X C R => ?_)
  refine g_aload_n C (pc := 0) dX3_take_0 rfl rfl ?_
  refine g_iload_n C (pc := 1) dX3_take_1 rfl ?_
  refine g_iload_n C (pc := 2) dX3_take_2 rfl ?_
  refine g_iconst C (pc := 3) (v := 0) dX3_take_3 (by decide) ?_
  refine g_callVD C (pc := 4) [.int a, .int b, .int 0] [] dX3_take_4 (c_X3_hands l D B K S h n a b 0 hS hg rfl) (lw_V q1510 q1512 qs39 q87 q1513) (wd_20 _ _ _) rfl rfl ds_X3_hands ⟨rfl, rfl⟩ ⟨Nat.le_of_ble_eq_true rfl, Nat.le_of_ble_eq_true rfl⟩ rfl rfl ⟨Nat.le_of_ble_eq_true rfl, Nat.le_of_ble_eq_true rfl⟩ (Nat.le_of_ble_eq_true rfl) rfl ?_
  refine G.nmS (fun S_4 e_S_4 => ?_)
  exact g_zretD C (b2i_nb _) R dX3_take_7 (Nat.le_refl _) (Nat.le_refl _) (rfl) (congrArg (fun z => wd K z h) (e_S_4)) rfl
theorem ds_X3_take : yX3_take.cls ≠ "java/lang/invoke/MethodHandle" ∧ yX3_take.cls ≠ "java/lang/invoke/VarHandle" ∧ (parseMethodDescriptor yX3_take.desc).map (fun d => d.parameters.length) = some 2 := by decide +kernel
