/-! MODEL, part 6: rules byte by byte -/
def pS (S : MS) (a : Nat) (f e : Int32) : MS := sI (sI (sI S 55 (nI a)) 56 f) 57 e
theorem pS_at (S : MS) (a b : Nat) (f e : Int32) : sI (pS S a f e) 55 (nI b) = pS S b f e := by
  unfold pS sI
  congr 1
  funext j
  simp only [upd]
  split
  · rename_i h; subst h; rfl
  · rfl
theorem pS_fault (S : MS) (a : Nat) (f g e : Int32) : sI (pS S a f e) 56 g = pS S a g e := by
  unfold pS sI
  congr 1
  funext j
  simp only [upd]
  split
  · rename_i h; subst h; rfl
  · rfl
theorem pS_deep (S : MS) (a : Nat) (f e g : Int32) : sI (pS S a f e) 57 g = pS S a f g := by
  unfold pS sI
  congr 1
  funext j
  simp only [upd]
  split
  · rename_i h; subst h; rfl
  · rfl
theorem MOK.pS {S : MS} (h : MOK S) (a : Nat) (f e : Int32) : MOK (pS S a f e) := ((h.setI (f := 55) _ rfl).setI (f := 56) _ rfl).setI (f := 57) _ rfl
def TXT (S : MS) : Prop := (S.1 54) = nI (mN S 54) ∧ (S.1 53) = nI (mN S 53) ∧ (mN S 54) ≤ 160 ∧ ∃ N, 21 ≤ S.2.2.2 ∧ mty[S.2.2.2 - 21]? = some (1, N) ∧ (mN S 53) + (mN S 54) ≤ N ∧ N ≤ 3200
theorem TXT.ends_ {S : MS} (h : TXT S) : (S.1 54) = nI (mN S 54) := h.1
theorem TXT.begins_ {S : MS} (h : TXT S) : (S.1 53) = nI (mN S 53) := h.2.1
theorem TXT.e160 {S : MS} (h : TXT S) : (mN S 54) ≤ 160 := h.2.2.1
theorem TXT.tx {S : MS} (h : TXT S) : ∃ N, 21 ≤ S.2.2.2 ∧ mty[S.2.2.2 - 21]? = some (1, N) ∧ (mN S 53) + (mN S 54) ≤ N ∧ N ≤ 3200 := h.2.2.2
def txS (S : MS) (j : Nat) : Int32 := n8 (S.2.1 S.2.2.2 ((mN S 53) + j))
def skp (tx : Nat → Int32) : Nat → Nat → Nat
  | 0, a => a
  | k + 1, a => if tx a = 32 then skp tx k (a + 1) else a
def skA (S : MS) (a : Nat) : Nat := skp (txS S) ((mN S 54) - a) a
def lookV (S : MS) (a : Nat) : Int32 := if skA S a < (mN S 54) then txS S (skA S a) &&& 255 else -1
theorem sk_end {S : MS} {a : Nat} (h : (mN S 54) ≤ a) : skA S a = a := by unfold skA; rw [show (mN S 54) - a = 0 by omega]; rfl
theorem sk_stop {S : MS} {a : Nat} (h : ¬ txS S a = 32) : skA S a = a := by
  unfold skA
  cases (mN S 54) - a with
  | zero => rfl
  | succ k => simp only [skp, if_neg h]
theorem sk_step {S : MS} {a : Nat} (h : a < (mN S 54)) (h2 : txS S a = 32) : skA S a = skA S (a + 1) := by
  unfold skA
  rw [show (mN S 54) - a = ((mN S 54) - (a + 1)) + 1 by omega]
  simp only [skp, if_pos h2]
theorem skp_rng (tx : Nat → Int32) (k a : Nat) : a ≤ skp tx k a ∧ skp tx k a ≤ a + k ∧ (skp tx k a < a + k → ¬ tx (skp tx k a) = 32) := by
  induction k generalizing a with
  | zero => exact ⟨Nat.le_refl _, Nat.le_refl _, fun h => absurd h (Nat.lt_irrefl _)⟩
  | succ k ih =>
    simp only [skp]
    split
    · have h := ih (a + 1); exact ⟨by omega, by omega, fun q => h.2.2 (by omega)⟩
    · exact ⟨by omega, by omega, fun _ => by assumption⟩
theorem sk_ge (S : MS) (a : Nat) : a ≤ skA S a := (skp_rng _ _ _).1
theorem sk_le {S : MS} {a : Nat} (h : a ≤ (mN S 54)) : skA S a ≤ (mN S 54) := by have := (skp_rng (txS S) ((mN S 54) - a) a).2.1; unfold skA; omega
theorem sk_idem (S : MS) (a : Nat) : skA S (skA S a) = skA S a := by
  rcases Nat.lt_or_ge (skA S a) (mN S 54) with h | h
  · exact sk_stop ((skp_rng (txS S) ((mN S 54) - a) a).2.2 (by unfold skA at h; omega))
  · exact sk_end h
theorem look_idem (S : MS) (a : Nat) : lookV S (skA S a) = lookV S a := by unfold lookV; rw [sk_idem]
theorem look_lt {S : MS} {a : Nat} {c : Int32} (h : lookV S a = c) (hc : ¬ c = -1) : skA S a < (mN S 54) := by
  unfold lookV at h
  by_cases q : skA S a < (mN S 54)
  · exact q
  · rw [if_neg q] at h; exact absurd h.symm hc
def stp (f : Int32) (a : Nat) : Int32 := if f = -1 then nI a else f
abbrev isDg (S : MS) (a : Nat) : Prop := a < (mN S 54) ∧ ¬ txS S a < 48 ∧ ¬ 57 < txS S a
def ndg (S : MS) (s : Nat) : Nat := if ¬ isDg S s then 0 else if ¬ isDg S (s + 1) then 1 else if ¬ isDg S (s + 2) then 2 else if ¬ isDg S (s + 3) then 3 else 4
def nvl (S : MS) (s : Nat) : Nat → Int32
  | 0 => 0
  | j + 1 => 10 * nvl S s j + txS S (s + j) - 48
/-- a number from s on: at, fault, value -/
def numR (S : MS) (s : Nat) (most : Int32) : Nat × Int32 × Int32 := if ndg S s = 0 then (s, nI s, 0) else if ndg S s = 4 then (s + 3, nI (s + 3), 0) else if most < nvl S s (ndg S s) then (s + ndg S s - 1, nI (s + ndg S s - 1), nvl S s (ndg S s)) else (s + ndg S s, -1, nvl S s (ndg S s))
theorem ndg_rng (S : MS) (s : Nat) : ndg S s ≤ 4 ∧ ∀ j, j < ndg S s → isDg S (s + j) := by
  unfold ndg
  repeat' split
  all_goals (refine ⟨by omega, fun j hj => ?_⟩)
  · omega
  · rw [show j = 0 by omega]; rename_i h _; exact Decidable.not_not.mp h
  · rename_i h0 h1 _; rcases (show j = 0 ∨ j = 1 by omega) with rfl | rfl
    · exact Decidable.not_not.mp h0
    · exact Decidable.not_not.mp h1
  · rename_i h0 h1 h2 _; rcases (show j = 0 ∨ j = 1 ∨ j = 2 by omega) with rfl | rfl | rfl
    · exact Decidable.not_not.mp h0
    · exact Decidable.not_not.mp h1
    · exact Decidable.not_not.mp h2
  · rename_i h0 h1 h2 h3; rcases (show j = 0 ∨ j = 1 ∨ j = 2 ∨ j = 3 by omega) with rfl | rfl | rfl | rfl
    · exact Decidable.not_not.mp h0
    · exact Decidable.not_not.mp h1
    · exact Decidable.not_not.mp h2
    · exact Decidable.not_not.mp h3
theorem ndg_lt {S : MS} {s : Nat} (h : ndg S s < 4) : ¬ isDg S (s + ndg S s) := by
  unfold ndg at h ⊢
  by_cases h0 : isDg S s
  · by_cases h1 : isDg S (s + 1)
    · by_cases h2 : isDg S (s + 2)
      · by_cases h3 : isDg S (s + 3)
        · simp [h0, h1, h2, h3] at h
        · rw [if_neg (not_not_intro h0), if_neg (not_not_intro h1), if_neg (not_not_intro h2), if_pos h3]; exact h3
      · rw [if_neg (not_not_intro h0), if_neg (not_not_intro h1), if_pos h2]; exact h2
    · rw [if_neg (not_not_intro h0), if_pos h1]; exact h1
  · rw [if_pos h0]; exact h0
theorem ndg_eq {S : MS} {s j : Nat} (hj : j ≤ 3) (h1 : ∀ i, i < j → isDg S (s + i)) (h2 : ¬ isDg S (s + j)) : ndg S s = j := by
  have r := ndg_rng S s
  rcases Nat.lt_trichotomy (ndg S s) j with q | q | q
  · exact absurd (h1 _ q) (ndg_lt (by omega))
  · exact q
  · exact absurd (r.2 j q) h2
theorem ndg_4 {S : MS} {s : Nat} (h1 : ∀ i, i < 4 → isDg S (s + i)) : ndg S s = 4 := by
  have r := ndg_rng S s
  rcases Nat.lt_or_ge (ndg S s) 4 with q | q
  · exact absurd (h1 _ q) (ndg_lt q)
  · omega

set_option maxHeartbeats 4000000 in
set_option maxRecDepth 100000 in
theorem c_X3_look (l : Launch) (D : gD) (B : Nat × Nat) (K : KS) (S : MS) (h : gHp) (n : Nat) (a : Nat) (f e : Int32)  (hT : TXT S) (ha : a ≤ (mN S 54)) : Con l yX3_look (ws_ yX3_look cX3_look 1 (some .int)) ({ frames := 0, cells := 0, slots := 0, locals := 0 }) D B [.ref 20] (wd K (pS S a f e) h) n (gdt (some (.int (lookV S a))) (wd K (pS S (skA S a) f e) h) n) 0 0 := by
  have hE := hT.e160
  obtain ⟨N, t21, tty, tN, t32⟩ := hT.tx
  have hska := sk_le ha
  refine Con.begin [some (.ref 20)] rfl rfl (Nat.le_of_ble_eq_true rfl) rfl rfl (fun X C R => ?_)
  have loop_0 : ∀ (d0 : Nat) (j : Nat), (j ≤ (mN S 54)) → (skA S j = skA S a) → (mN S 54) - j < d0 → G X D B (wd K (pS S j f e) h) n 0 0 [some (.ref 20)] 0 [] := by
    intro d0
    induction d0 with
    | zero =>
      intro j hj hs hm0
      exact absurd hm0 (Nat.not_lt_zero _)
    | succ d0 ih0 =>
      intro j hj hs hm0
      refine g_aload_n C (pc := 0) dX3_look_0 rfl rfl ?_
      refine m_geti C 55 (pc := 1) (v := nI j) dX3_look_1 rfl q1248 rfl rfl ?_
      refine g_aload_n C (pc := 4) dX3_look_4 rfl rfl ?_
      refine m_geti C 54 (pc := 5) (v := nI (mN S 54)) dX3_look_5 rfl q1247 rfl hT.ends_ ?_
      refine g_icmp_ge C (pc := 8) (tgt := 43) dX3_look_8 (by decide) (fun c_8 => ?_) (fun c_8 => ?_)
      · skip
        have c_8 : (mN S 54) ≤ j := Nat.not_lt.mp fun q => c_8 ((nI_ltI (a := j) (b := (mN S 54)) (by omega) (by omega)).mpr q)
        have hsk : skA S a = j := by rw [← hs]; exact sk_end (by omega)
        refine g_aload_n C (pc := 43) dX3_look_43 rfl rfl ?_
        refine m_geti C 55 (pc := 44) (v := nI j) dX3_look_44 rfl q1248 rfl rfl ?_
        refine g_aload_n C (pc := 47) dX3_look_47 rfl rfl ?_
        refine m_geti C 54 (pc := 48) (v := nI (mN S 54)) dX3_look_48 rfl q1247 rfl hT.ends_ ?_
        refine g_icmp_ge C (pc := 51) (tgt := 75) dX3_look_51 (by decide) (fun c_51 => ?_) (fun c_51 => ?_)
        · skip
          have c_51 : (mN S 54) ≤ j := Nat.not_lt.mp fun q => c_51 ((nI_ltI (a := j) (b := (mN S 54)) (by omega) (by omega)).mpr q)
          refine g_iconst C (pc := 75) (v := (-1)) dX3_look_75 (by decide) ?_
          exact g_iretD C R dX3_look_76 (Nat.le_refl _) (Nat.le_refl _) (by unfold lookV; first | (rw [if_pos (by omega), hsk]; done) | (rw [if_neg (by omega)]; done)) (congrArg (fun z => wd K z h) (by rw [hsk])) rfl
        · skip
          have c_51 : j < (mN S 54) := (nI_ltI (a := j) (b := (mN S 54)) (by omega) (by omega)).mp c_51
          refine g_aload_n C (pc := 54) dX3_look_54 rfl rfl ?_
          refine m_gett C (pc := 55) (a := S.2.2.2) dX3_look_55 q1245 rfl ?_
          refine g_aload_n C (pc := 58) dX3_look_58 rfl rfl ?_
          refine m_geti C 53 (pc := 59) (v := nI (mN S 53)) dX3_look_59 rfl q1246 rfl hT.begins_ ?_
          refine g_aload_n C (pc := 62) dX3_look_62 rfl rfl ?_
          refine m_geti C 55 (pc := 63) (v := nI j) dX3_look_63 rfl q1248 rfl rfl ?_
          refine g_iadd C (pc := 66) dX3_look_66 ?_
          refine G.topc (nI_add _ _) ?_
          refine m_bald C (pc := 67) (v := txS S j) dX3_look_67 t21 tty (vp_in_nI (by omega) (by omega)) (congrArg n8 (gix _ (by omega))) ?_
          refine g_sipush C (pc := 68) (v := 255) dX3_look_68 (by decide) ?_
          refine g_iand C (pc := 71) dX3_look_71 ?_
          refine g_goto C (pc := 72) (tgt := 76) dX3_look_72 (by decide) ?_
          exact g_iretD C R dX3_look_76 (Nat.le_refl _) (Nat.le_refl _) (by unfold lookV; first | (rw [if_pos (by omega), hsk]; done) | (rw [if_neg (by omega)]; done)) (congrArg (fun z => wd K z h) (by rw [hsk])) rfl
      · skip
        have c_8 : j < (mN S 54) := (nI_ltI (a := j) (b := (mN S 54)) (by omega) (by omega)).mp c_8
        refine g_aload_n C (pc := 11) dX3_look_11 rfl rfl ?_
        refine m_gett C (pc := 12) (a := S.2.2.2) dX3_look_12 q1245 rfl ?_
        refine g_aload_n C (pc := 15) dX3_look_15 rfl rfl ?_
        refine m_geti C 53 (pc := 16) (v := nI (mN S 53)) dX3_look_16 rfl q1246 rfl hT.begins_ ?_
        refine g_aload_n C (pc := 19) dX3_look_19 rfl rfl ?_
        refine m_geti C 55 (pc := 20) (v := nI j) dX3_look_20 rfl q1248 rfl rfl ?_
        refine g_iadd C (pc := 23) dX3_look_23 ?_
        refine G.topc (nI_add _ _) ?_
        refine m_bald C (pc := 24) (v := txS S j) dX3_look_24 t21 tty (vp_in_nI (by omega) (by omega)) (congrArg n8 (gix _ (by omega))) ?_
        refine g_bipush C (pc := 25) (v := 32) dX3_look_25 (by decide) ?_
        refine g_icmp_ne C (pc := 27) (tgt := 43) dX3_look_27 (by decide) (fun c_27 => ?_) (fun c_27 => ?_)
        · skip
          have c_27 : ¬ ((txS S j) : Int32) = 32 := c_27
          have hsk : skA S a = j := by rw [← hs]; exact sk_stop c_27
          refine g_aload_n C (pc := 43) dX3_look_43 rfl rfl ?_
          refine m_geti C 55 (pc := 44) (v := nI j) dX3_look_44 rfl q1248 rfl rfl ?_
          refine g_aload_n C (pc := 47) dX3_look_47 rfl rfl ?_
          refine m_geti C 54 (pc := 48) (v := nI (mN S 54)) dX3_look_48 rfl q1247 rfl hT.ends_ ?_
          refine g_icmp_ge C (pc := 51) (tgt := 75) dX3_look_51 (by decide) (fun c_51 => ?_) (fun c_51 => ?_)
          · skip
            have c_51 : (mN S 54) ≤ j := Nat.not_lt.mp fun q => c_51 ((nI_ltI (a := j) (b := (mN S 54)) (by omega) (by omega)).mpr q)
            refine g_iconst C (pc := 75) (v := (-1)) dX3_look_75 (by decide) ?_
            exact g_iretD C R dX3_look_76 (Nat.le_refl _) (Nat.le_refl _) (by unfold lookV; first | (rw [if_pos (by omega), hsk]; done) | (rw [if_neg (by omega)]; done)) (congrArg (fun z => wd K z h) (by rw [hsk])) rfl
          · skip
            have c_51 : j < (mN S 54) := (nI_ltI (a := j) (b := (mN S 54)) (by omega) (by omega)).mp c_51
            refine g_aload_n C (pc := 54) dX3_look_54 rfl rfl ?_
            refine m_gett C (pc := 55) (a := S.2.2.2) dX3_look_55 q1245 rfl ?_
            refine g_aload_n C (pc := 58) dX3_look_58 rfl rfl ?_
            refine m_geti C 53 (pc := 59) (v := nI (mN S 53)) dX3_look_59 rfl q1246 rfl hT.begins_ ?_
            refine g_aload_n C (pc := 62) dX3_look_62 rfl rfl ?_
            refine m_geti C 55 (pc := 63) (v := nI j) dX3_look_63 rfl q1248 rfl rfl ?_
            refine g_iadd C (pc := 66) dX3_look_66 ?_
            refine G.topc (nI_add _ _) ?_
            refine m_bald C (pc := 67) (v := txS S j) dX3_look_67 t21 tty (vp_in_nI (by omega) (by omega)) (congrArg n8 (gix _ (by omega))) ?_
            refine g_sipush C (pc := 68) (v := 255) dX3_look_68 (by decide) ?_
            refine g_iand C (pc := 71) dX3_look_71 ?_
            refine g_goto C (pc := 72) (tgt := 76) dX3_look_72 (by decide) ?_
            exact g_iretD C R dX3_look_76 (Nat.le_refl _) (Nat.le_refl _) (by unfold lookV; first | (rw [if_pos (by omega), hsk]; done) | (rw [if_neg (by omega)]; done)) (congrArg (fun z => wd K z h) (by rw [hsk])) rfl
        · skip
          have c_27 : ((txS S j) : Int32) = 32 := c_27
          refine g_aload_n C (pc := 30) dX3_look_30 rfl rfl ?_
          refine g_dup C (pc := 31) dX3_look_31 rfl ?_
          refine m_geti C 55 (pc := 32) (v := nI j) dX3_look_32 rfl q1248 rfl rfl ?_
          refine g_iconst C (pc := 35) (v := 1) dX3_look_35 (by decide) ?_
          refine g_iadd C (pc := 36) dX3_look_36 ?_
          refine G.topc (nI_1 _) ?_
          refine m_puti C 55 (pc := 37) dX3_look_37 rfl q1248 rfl rfl rfl ?_
          rw [pS_at]
          refine g_goto C (pc := 40) (tgt := 0) dX3_look_40 (by decide) ?_
          refine G.mask [true] rfl ?_
          exact ih0 (j + 1) (by omega) (by rw [← hs]; exact (sk_step c_8 c_27).symm) (by omega)
  refine G.mask [true] rfl ?_
  exact loop_0 _ a (ha) (rfl) (Nat.lt_succ_self _)
theorem ds_X3_look : yX3_look.cls ≠ "java/lang/invoke/MethodHandle" ∧ yX3_look.cls ≠ "java/lang/invoke/VarHandle" ∧ (parseMethodDescriptor yX3_look.desc).map (fun d => d.parameters.length) = some 0 := by decide +kernel
set_option maxHeartbeats 4000000 in
set_option maxRecDepth 100000 in
theorem c_X3_stop (l : Launch) (D : gD) (B : Nat × Nat) (K : KS) (S : MS) (h : gHp) (n : Nat) (a : Nat) (f e : Int32)  (hT : TXT S) (ha : a ≤ (mN S 54)) : Con l yX3_stop (ws_ yX3_stop cX3_stop 1 (some .boolean)) ({ frames := 0, cells := 0, slots := 0, locals := 0 }) D B [.ref 20] (wd K (pS S a f e) h) n (gdt (some (.int (b2i false))) (wd K (pS S a (stp f a) e) h) n) 0 0 := by
  have hE := hT.e160
  obtain ⟨N, t21, tty, tN, t32⟩ := hT.tx
  have hska := sk_le ha
  refine Con.begin [some (.ref 20)] rfl rfl (Nat.le_of_ble_eq_true rfl) rfl rfl (fun X C R => ?_)
  refine g_aload_n C (pc := 0) dX3_stop_0 rfl rfl ?_
  refine m_geti C 56 (pc := 1) (v := f) dX3_stop_1 rfl q1249 rfl rfl ?_
  refine g_iconst C (pc := 4) (v := (-1)) dX3_stop_4 (by decide) ?_
  refine g_icmp_ne C (pc := 5) (tgt := 16) dX3_stop_5 (by decide) (fun c_5 => ?_) (fun c_5 => ?_)
  · skip
    have c_5 : ¬ ((f) : Int32) = -1 := c_5
    refine g_iconst C (pc := 16) (v := 0) dX3_stop_16 (by decide) ?_
    exact g_zretD C (b2i_nb _) R dX3_stop_17 (Nat.le_refl _) (Nat.le_refl _) (rfl) (congrArg (fun z => wd K z h) (by unfold stp; first | (rw [if_pos c_5]) | (rw [if_neg c_5]))) rfl
  · skip
    have c_5 : ((f) : Int32) = -1 := c_5
    refine g_aload_n C (pc := 8) dX3_stop_8 rfl rfl ?_
    refine g_aload_n C (pc := 9) dX3_stop_9 rfl rfl ?_
    refine m_geti C 55 (pc := 10) (v := nI a) dX3_stop_10 rfl q1248 rfl rfl ?_
    refine m_puti C 56 (pc := 13) dX3_stop_13 rfl q1249 rfl rfl rfl ?_
    rw [pS_fault]
    refine g_iconst C (pc := 16) (v := 0) dX3_stop_16 (by decide) ?_
    exact g_zretD C (b2i_nb _) R dX3_stop_17 (Nat.le_refl _) (Nat.le_refl _) (rfl) (congrArg (fun z => wd K z h) (by unfold stp; first | (rw [if_pos c_5]) | (rw [if_neg c_5]))) rfl
theorem ds_X3_stop : yX3_stop.cls ≠ "java/lang/invoke/MethodHandle" ∧ yX3_stop.cls ≠ "java/lang/invoke/VarHandle" ∧ (parseMethodDescriptor yX3_stop.desc).map (fun d => d.parameters.length) = some 0 := by decide +kernel
set_option maxHeartbeats 4000000 in
set_option maxRecDepth 100000 in
theorem c_X3_goesIn (l : Launch) (D : gD) (B : Nat × Nat) (K : KS) (S : MS) (h : gHp) (n : Nat) (a : Nat) (f e : Int32)  (hT : TXT S) (ha : a ≤ (mN S 54)) : Con l yX3_goesIn (ws_ yX3_goesIn cX3_goesIn 1 (some .boolean)) ({ frames := 1, cells := 0, slots := 0, locals := 20 }) D B [.ref 20] (wd K (pS S a f e) h) n (gdt (some (.int (b2i (decide (¬ e = 8))))) (wd K (pS S (if e = 8 then a else a + 1) (if e = 8 then stp f a else f) (if e = 8 then e else e + 1)) h) n) 0 0 := by
  have hE := hT.e160
  obtain ⟨N, t21, tty, tN, t32⟩ := hT.tx
  have hska := sk_le ha
  refine Con.begin [some (.ref 20)] rfl rfl (Nat.le_of_ble_eq_true rfl) rfl rfl (fun X C R => ?_)
  refine g_aload_n C (pc := 0) dX3_goesIn_0 rfl rfl ?_
  refine m_geti C 57 (pc := 1) (v := e) dX3_goesIn_1 rfl q1250 rfl rfl ?_
  refine g_bipush C (pc := 4) (v := 8) dX3_goesIn_4 (by decide) ?_
  refine g_icmp_ne C (pc := 6) (tgt := 14) dX3_goesIn_6 (by decide) (fun c_6 => ?_) (fun c_6 => ?_)
  · skip
    have c_6 : ¬ ((e) : Int32) = 8 := c_6
    refine g_aload_n C (pc := 14) dX3_goesIn_14 rfl rfl ?_
    refine g_dup C (pc := 15) dX3_goesIn_15 rfl ?_
    refine m_geti C 57 (pc := 16) (v := e) dX3_goesIn_16 rfl q1250 rfl rfl ?_
    refine g_iconst C (pc := 19) (v := 1) dX3_goesIn_19 (by decide) ?_
    refine g_iadd C (pc := 20) dX3_goesIn_20 ?_
    refine m_puti C 57 (pc := 21) dX3_goesIn_21 rfl q1250 rfl rfl rfl ?_
    rw [pS_deep]
    refine g_aload_n C (pc := 24) dX3_goesIn_24 rfl rfl ?_
    refine g_dup C (pc := 25) dX3_goesIn_25 rfl ?_
    refine m_geti C 55 (pc := 26) (v := nI a) dX3_goesIn_26 rfl q1248 rfl rfl ?_
    refine g_iconst C (pc := 29) (v := 1) dX3_goesIn_29 (by decide) ?_
    refine g_iadd C (pc := 30) dX3_goesIn_30 ?_
    refine G.topc (nI_1 _) ?_
    refine m_puti C 55 (pc := 31) dX3_goesIn_31 rfl q1248 rfl rfl rfl ?_
    rw [pS_at]
    refine g_iconst C (pc := 34) (v := 1) dX3_goesIn_34 (by decide) ?_
    exact g_zretD C (b2i_nb _) R dX3_goesIn_35 (Nat.le_refl _) (Nat.le_refl _) (by simp [b2i, c_6]) (congrArg (fun z => wd K z h) (by simp [c_6])) rfl
  · skip
    have c_6 : ((e) : Int32) = 8 := c_6
    refine g_aload_n C (pc := 9) dX3_goesIn_9 rfl rfl ?_
    refine g_callVD C (pc := 10) [] [] dX3_goesIn_10 (c_X3_stop l D B K S h n a f e  hT (by omega)) (lw_V q1660 q1662 qs59 q87 q1663) (wd_20 _ _ _) rfl rfl ds_X3_stop ⟨rfl, rfl⟩ ⟨Nat.le_of_ble_eq_true rfl, Nat.le_of_ble_eq_true rfl⟩ rfl rfl ⟨Nat.le_of_ble_eq_true rfl, Nat.le_of_ble_eq_true rfl⟩ (Nat.le_of_ble_eq_true rfl) rfl ?_
    exact g_zretD C (b2i_nb _) R dX3_goesIn_13 (Nat.le_refl _) (Nat.le_refl _) (by simp [b2i, c_6]) (congrArg (fun z => wd K z h) (by simp [c_6])) rfl
theorem ds_X3_goesIn : yX3_goesIn.cls ≠ "java/lang/invoke/MethodHandle" ∧ yX3_goesIn.cls ≠ "java/lang/invoke/VarHandle" ∧ (parseMethodDescriptor yX3_goesIn.desc).map (fun d => d.parameters.length) = some 0 := by decide +kernel
set_option maxHeartbeats 4000000 in
set_option maxRecDepth 100000 in
theorem c_X3_isDigit (l : Launch) (D : gD) (B : Nat × Nat) (K : KS) (S : MS) (h : gHp) (n : Nat) (a : Nat) (f e : Int32)  (hT : TXT S) (ha : a ≤ (mN S 54)) : Con l yX3_isDigit (ws_ yX3_isDigit cX3_isDigit 1 (some .boolean)) ({ frames := 0, cells := 0, slots := 0, locals := 0 }) D B [.ref 20] (wd K (pS S a f e) h) n (gdt (some (.int (p2i (isDg S a)))) (wd K (pS S a f e) h) n) 0 0 := by
  have hE := hT.e160
  obtain ⟨N, t21, tty, tN, t32⟩ := hT.tx
  have hska := sk_le ha
  refine Con.begin [some (.ref 20)] rfl rfl (Nat.le_of_ble_eq_true rfl) rfl rfl (fun X C R => ?_)
  refine g_aload_n C (pc := 0) dX3_isDigit_0 rfl rfl ?_
  refine m_geti C 55 (pc := 1) (v := nI a) dX3_isDigit_1 rfl q1248 rfl rfl ?_
  refine g_aload_n C (pc := 4) dX3_isDigit_4 rfl rfl ?_
  refine m_geti C 54 (pc := 5) (v := nI (mN S 54)) dX3_isDigit_5 rfl q1247 rfl hT.ends_ ?_
  refine g_icmp_ge C (pc := 8) (tgt := 53) dX3_isDigit_8 (by decide) (fun c_8 => ?_) (fun c_8 => ?_)
  · skip
    have c_8 : (mN S 54) ≤ a := Nat.not_lt.mp fun q => c_8 ((nI_ltI (a := a) (b := (mN S 54)) (by omega) (by omega)).mpr q)
    refine g_iconst C (pc := 53) (v := 0) dX3_isDigit_53 (by decide) ?_
    exact g_zretD C (p2i_nb _) R dX3_isDigit_54 (Nat.le_refl _) (Nat.le_refl _) ((p2i_f (by grind)).symm) rfl rfl
  · skip
    have c_8 : a < (mN S 54) := (nI_ltI (a := a) (b := (mN S 54)) (by omega) (by omega)).mp c_8
    refine g_aload_n C (pc := 11) dX3_isDigit_11 rfl rfl ?_
    refine m_gett C (pc := 12) (a := S.2.2.2) dX3_isDigit_12 q1245 rfl ?_
    refine g_aload_n C (pc := 15) dX3_isDigit_15 rfl rfl ?_
    refine m_geti C 53 (pc := 16) (v := nI (mN S 53)) dX3_isDigit_16 rfl q1246 rfl hT.begins_ ?_
    refine g_aload_n C (pc := 19) dX3_isDigit_19 rfl rfl ?_
    refine m_geti C 55 (pc := 20) (v := nI a) dX3_isDigit_20 rfl q1248 rfl rfl ?_
    refine g_iadd C (pc := 23) dX3_isDigit_23 ?_
    refine G.topc (nI_add _ _) ?_
    refine m_bald C (pc := 24) (v := txS S a) dX3_isDigit_24 t21 tty (vp_in_nI (by omega) (by omega)) (congrArg n8 (gix _ (by omega))) ?_
    refine g_bipush C (pc := 25) (v := 48) dX3_isDigit_25 (by decide) ?_
    refine g_icmp_lt C (pc := 27) (tgt := 53) dX3_isDigit_27 (by decide) (fun c_27 => ?_) (fun c_27 => ?_)
    · skip
      have c_27 : ((txS S a) : Int32) < 48 := c_27
      refine g_iconst C (pc := 53) (v := 0) dX3_isDigit_53 (by decide) ?_
      exact g_zretD C (p2i_nb _) R dX3_isDigit_54 (Nat.le_refl _) (Nat.le_refl _) ((p2i_f (by grind)).symm) rfl rfl
    · skip
      have c_27 : ¬ ((txS S a) : Int32) < 48 := c_27
      refine g_aload_n C (pc := 30) dX3_isDigit_30 rfl rfl ?_
      refine m_gett C (pc := 31) (a := S.2.2.2) dX3_isDigit_31 q1245 rfl ?_
      refine g_aload_n C (pc := 34) dX3_isDigit_34 rfl rfl ?_
      refine m_geti C 53 (pc := 35) (v := nI (mN S 53)) dX3_isDigit_35 rfl q1246 rfl hT.begins_ ?_
      refine g_aload_n C (pc := 38) dX3_isDigit_38 rfl rfl ?_
      refine m_geti C 55 (pc := 39) (v := nI a) dX3_isDigit_39 rfl q1248 rfl rfl ?_
      refine g_iadd C (pc := 42) dX3_isDigit_42 ?_
      refine G.topc (nI_add _ _) ?_
      refine m_bald C (pc := 43) (v := txS S a) dX3_isDigit_43 t21 tty (vp_in_nI (by omega) (by omega)) (congrArg n8 (gix _ (by omega))) ?_
      refine g_bipush C (pc := 44) (v := 57) dX3_isDigit_44 (by decide) ?_
      refine g_icmp_gt C (pc := 46) (tgt := 53) dX3_isDigit_46 (by decide) (fun c_46 => ?_) (fun c_46 => ?_)
      · skip
        have c_46 : ((57) : Int32) < (txS S a) := c_46
        refine g_iconst C (pc := 53) (v := 0) dX3_isDigit_53 (by decide) ?_
        exact g_zretD C (p2i_nb _) R dX3_isDigit_54 (Nat.le_refl _) (Nat.le_refl _) ((p2i_f (by grind)).symm) rfl rfl
      · skip
        have c_46 : ¬ ((57) : Int32) < (txS S a) := c_46
        refine g_iconst C (pc := 49) (v := 1) dX3_isDigit_49 (by decide) ?_
        refine g_goto C (pc := 50) (tgt := 54) dX3_isDigit_50 (by decide) ?_
        exact g_zretD C (p2i_nb _) R dX3_isDigit_54 (Nat.le_refl _) (Nat.le_refl _) ((p2i_t (by grind)).symm) rfl rfl
theorem ds_X3_isDigit : yX3_isDigit.cls ≠ "java/lang/invoke/MethodHandle" ∧ yX3_isDigit.cls ≠ "java/lang/invoke/VarHandle" ∧ (parseMethodDescriptor yX3_isDigit.desc).map (fun d => d.parameters.length) = some 0 := by decide +kernel
set_option maxHeartbeats 4000000 in
set_option maxRecDepth 100000 in
theorem c_X3_takes (l : Launch) (D : gD) (B : Nat × Nat) (K : KS) (S : MS) (h : gHp) (n : Nat) (a : Nat) (f e : Int32) (t : Int32) (hT : TXT S) (ha : a ≤ (mN S 54)) (ht : ¬ t = -1) : Con l yX3_takes (ws_ yX3_takes cX3_takes 2 (some .boolean)) ({ frames := 1, cells := 0, slots := 0, locals := 20 }) D B [.ref 20, .int t] (wd K (pS S a f e) h) n (gdt (some (.int (b2i (decide (f = -1 ∧ lookV S a = t))))) (wd K (pS S (if f = -1 then (if lookV S a = t then skA S a + 1 else skA S a) else a) (if f = -1 then (if lookV S a = t then f else nI (skA S a)) else f) e) h) n) 0 0 := by
  have hE := hT.e160
  obtain ⟨N, t21, tty, tN, t32⟩ := hT.tx
  have hska := sk_le ha
  refine Con.begin [some (.ref 20), some (.int t)] rfl rfl (Nat.le_of_ble_eq_true rfl) rfl rfl (fun X C R => ?_)
  refine g_aload_n C (pc := 0) dX3_takes_0 rfl rfl ?_
  refine m_geti C 56 (pc := 1) (v := f) dX3_takes_1 rfl q1249 rfl rfl ?_
  refine g_iconst C (pc := 4) (v := (-1)) dX3_takes_4 (by decide) ?_
  refine g_icmp_ne C (pc := 5) (tgt := 16) dX3_takes_5 (by decide) (fun c_5 => ?_) (fun c_5 => ?_)
  · skip
    have c_5 : ¬ ((f) : Int32) = -1 := c_5
    refine g_aload_n C (pc := 16) dX3_takes_16 rfl rfl ?_
    refine g_callVD C (pc := 17) [] [] dX3_takes_17 (c_X3_stop l D B K S h n a f e  hT (by omega)) (lw_V q1660 q1662 qs59 q87 q1663) (wd_20 _ _ _) rfl rfl ds_X3_stop ⟨rfl, rfl⟩ ⟨Nat.le_of_ble_eq_true rfl, Nat.le_of_ble_eq_true rfl⟩ rfl rfl ⟨Nat.le_of_ble_eq_true rfl, Nat.le_of_ble_eq_true rfl⟩ (Nat.le_of_ble_eq_true rfl) rfl ?_
    exact g_zretD C (b2i_nb _) R dX3_takes_20 (Nat.le_refl _) (Nat.le_refl _) (by simp [b2i, *]) (congrArg (fun z => wd K z h) (by simp [stp, *])) rfl
  · skip
    have c_5 : ((f) : Int32) = -1 := c_5
    refine g_aload_n C (pc := 8) dX3_takes_8 rfl rfl ?_
    refine g_callVD C (pc := 9) [] [] dX3_takes_9 (c_X3_look l D B K S h n a f e  hT (by omega)) (lw_V q1652 q1654 qs57 q87 q1655) (wd_20 _ _ _) rfl rfl ds_X3_look ⟨rfl, rfl⟩ ⟨Nat.le_of_ble_eq_true rfl, Nat.le_of_ble_eq_true rfl⟩ rfl rfl ⟨Nat.le_of_ble_eq_true rfl, Nat.le_of_ble_eq_true rfl⟩ (Nat.le_of_ble_eq_true rfl) rfl ?_
    refine g_iload_n C (pc := 12) dX3_takes_12 rfl ?_
    refine g_icmp_eq C (pc := 13) (tgt := 21) dX3_takes_13 (by decide) (fun c_13 => ?_) (fun c_13 => ?_)
    · skip
      have c_13 : ((lookV S a) : Int32) = t := c_13
      refine g_aload_n C (pc := 21) dX3_takes_21 rfl rfl ?_
      refine g_dup C (pc := 22) dX3_takes_22 rfl ?_
      refine m_geti C 55 (pc := 23) (v := nI (skA S a)) dX3_takes_23 rfl q1248 rfl rfl ?_
      refine g_iconst C (pc := 26) (v := 1) dX3_takes_26 (by decide) ?_
      refine g_iadd C (pc := 27) dX3_takes_27 ?_
      refine G.topc (nI_1 _) ?_
      refine m_puti C 55 (pc := 28) dX3_takes_28 rfl q1248 rfl rfl rfl ?_
      rw [pS_at]
      refine g_iconst C (pc := 31) (v := 1) dX3_takes_31 (by decide) ?_
      exact g_zretD C (b2i_nb _) R dX3_takes_32 (Nat.le_refl _) (Nat.le_refl _) (by simp [b2i, *]) (congrArg (fun z => wd K z h) (by simp [stp, *])) rfl
    · skip
      have c_13 : ¬ ((lookV S a) : Int32) = t := c_13
      refine g_aload_n C (pc := 16) dX3_takes_16 rfl rfl ?_
      refine g_callVD C (pc := 17) [] [] dX3_takes_17 (c_X3_stop l D B K S h n (skA S a) f e  hT (by omega)) (lw_V q1660 q1662 qs59 q87 q1663) (wd_20 _ _ _) rfl rfl ds_X3_stop ⟨rfl, rfl⟩ ⟨Nat.le_of_ble_eq_true rfl, Nat.le_of_ble_eq_true rfl⟩ rfl rfl ⟨Nat.le_of_ble_eq_true rfl, Nat.le_of_ble_eq_true rfl⟩ (Nat.le_of_ble_eq_true rfl) rfl ?_
      exact g_zretD C (b2i_nb _) R dX3_takes_20 (Nat.le_refl _) (Nat.le_refl _) (by simp [b2i, *]) (congrArg (fun z => wd K z h) (by simp [stp, *])) rfl
theorem ds_X3_takes : yX3_takes.cls ≠ "java/lang/invoke/MethodHandle" ∧ yX3_takes.cls ≠ "java/lang/invoke/VarHandle" ∧ (parseMethodDescriptor yX3_takes.desc).map (fun d => d.parameters.length) = some 1 := by decide +kernel
theorem nI_dec {k : Nat} (h : 1 ≤ k) : nI k - 1 = nI (k - 1) := by
  obtain ⟨q, rfl⟩ : ∃ q, k = q + 1 := ⟨k - 1, by omega⟩
  exact nI_pred q
theorem nI_ne1 {k : Nat} (h : k < 2 ^ 31) : ¬ nI k = -1 := by
  intro q
  have h1 := nI_toInt h
  rw [q] at h1
  have h2 : (-1 : Int32).toInt = -1 := by decide
  omega
theorem b2i_t {b : Bool} : b = true → b2i b = 1 := fun h => by rw [h]; rfl
theorem b2i_f {b : Bool} : ¬ b = true → b2i b = 0 := fun h => by cases b with | true => exact absurd rfl h | false => rfl
set_option maxHeartbeats 4000000 in
set_option maxRecDepth 100000 in
theorem c_X3_number (l : Launch) (D : gD) (B : Nat × Nat) (K : KS) (S : MS) (h : gHp) (n : Nat) (a : Nat) (e : Int32) (w : Int32) (hT : TXT S) (ha : a ≤ (mN S 54)) : Con l yX3_number (ws_ yX3_number cX3_number 5 (some .int)) ({ frames := 1, cells := 0, slots := 0, locals := 20 }) D B [.ref 20, .int w] (wd K (pS S a (-1) e) h) n (gdt (some (.int ((numR S (skA S a) w).2.2))) (wd K (pS S ((numR S (skA S a) w).1) ((numR S (skA S a) w).2.1) e) h) n) 0 0 := by
  have hE := hT.e160
  obtain ⟨N, t21, tty, tN, t32⟩ := hT.tx
  have hska := sk_le ha
  refine Con.begin [some (.ref 20), some (.int w), none, none, none] rfl rfl (Nat.le_of_ble_eq_true rfl) rfl rfl (fun X C R => ?_)
  refine g_aload_n C (pc := 0) dX3_number_0 rfl rfl ?_
  refine g_callVD C (pc := 1) [] [] dX3_number_1 (c_X3_look l D B K S h n a (-1) e  hT (by omega)) (lw_V q1652 q1654 qs57 q87 q1655) (wd_20 _ _ _) rfl rfl ds_X3_look ⟨rfl, rfl⟩ ⟨Nat.le_of_ble_eq_true rfl, Nat.le_of_ble_eq_true rfl⟩ rfl rfl ⟨Nat.le_of_ble_eq_true rfl, Nat.le_of_ble_eq_true rfl⟩ (Nat.le_of_ble_eq_true rfl) rfl ?_
  refine g_istore_n C (pc := 4) (L' := [some (.ref 20), some (.int w), some (.int (lookV S a)), none, none]) dX3_number_4 (by decide) rfl rfl ?_
  refine g_aload_n C (pc := 5) dX3_number_5 rfl rfl ?_
  refine g_callVD C (pc := 6) [] [] dX3_number_6 (c_X3_isDigit l D B K S h n (skA S a) (-1) e  hT (by omega)) (lw_V q1672 q1674 qs62 q87 q1675) (wd_20 _ _ _) rfl rfl ds_X3_isDigit ⟨rfl, rfl⟩ ⟨Nat.le_of_ble_eq_true rfl, Nat.le_of_ble_eq_true rfl⟩ rfl rfl ⟨Nat.le_of_ble_eq_true rfl, Nat.le_of_ble_eq_true rfl⟩ (Nat.le_of_ble_eq_true rfl) rfl ?_
  refine g_if_ne C (pc := 9) (tgt := 17) dX3_number_9 (by decide) (fun c_9 => ?_) (fun c_9 => ?_)
  · skip
    have c_9 : (isDg S (skA S a)) := p2i_n0.mp c_9
    refine g_iconst C (pc := 17) (v := 0) dX3_number_17 (by decide) ?_
    refine g_istore_n C (pc := 18) (L' := [some (.ref 20), some (.int w), some (.int (lookV S a)), some (.int 0), none]) dX3_number_18 (by decide) rfl rfl ?_
    refine g_iconst C (pc := 19) (v := 0) dX3_number_19 (by decide) ?_
    refine g_istore C (pc := 20) (L' := [some (.ref 20), some (.int w), some (.int (lookV S a)), some (.int 0), some (.int 0)]) dX3_number_20 (by decide) rfl rfl ?_
    have loop_22 : ∀ (d22 : Nat) (j : Nat) (x : Int32) (f : Int32), (j ≤ 3) → (skA S a + j ≤ (mN S 54)) → (x = nvl S (skA S a) j) → ((f = -1 ∧ (∀ i, i < j → isDg S (skA S a + i)) ∧ isDg S (skA S a)) ∨ (f = nI (skA S a) ∧ j = 0 ∧ ¬ isDg S (skA S a))) → 3 - j < d22 → G X D B (wd K (pS S (skA S a + j) f e) h) n 0 0 [some (.ref 20), some (.int w), none, some (.int x), some (.int (nI j))] 22 [] := by
      intro d22
      induction d22 with
      | zero =>
        intro j x f hj hjE hx hf hm22
        exact absurd hm22 (Nat.not_lt_zero _)
      | succ d22 ih22 =>
        intro j x f hj hjE hx hf hm22
        refine g_aload_n C (pc := 22) dX3_number_22 rfl rfl ?_
        refine g_callVD C (pc := 23) [] [] dX3_number_23 (c_X3_isDigit l D B K S h n (skA S a + j) f e  hT (by omega)) (lw_V q1672 q1674 qs62 q87 q1675) (wd_20 _ _ _) rfl rfl ds_X3_isDigit ⟨rfl, rfl⟩ ⟨Nat.le_of_ble_eq_true rfl, Nat.le_of_ble_eq_true rfl⟩ rfl rfl ⟨Nat.le_of_ble_eq_true rfl, Nat.le_of_ble_eq_true rfl⟩ (Nat.le_of_ble_eq_true rfl) rfl ?_
        refine g_if_eq C (pc := 26) (tgt := 89) dX3_number_26 (by decide) (fun c_26 => ?_) (fun c_26 => ?_)
        · skip
          have c_26 : ¬ (isDg S (skA S a + j)) := p2i_0.mp c_26
          refine g_aload_n C (pc := 89) dX3_number_89 rfl rfl ?_
          refine m_geti C 56 (pc := 90) (v := f) dX3_number_90 rfl q1249 rfl rfl ?_
          refine g_iconst C (pc := 93) (v := (-1)) dX3_number_93 (by decide) ?_
          refine g_icmp_ne C (pc := 94) (tgt := 117) dX3_number_94 (by decide) (fun c_94 => ?_) (fun c_94 => ?_)
          · skip
            have c_94 : ¬ ((f) : Int32) = -1 := c_94
            refine g_iload_n C (pc := 117) dX3_number_117 rfl ?_
            have hnum : numR S (skA S a) w = ((skA S a + j), f, x) := by
              rcases hf with ⟨hf1, h1, h2⟩ | ⟨hf1, h0, h2⟩
              · have c_26 : ¬ isDg S (skA S a + j) := by first | exact c_26 | exact absurd hf1 c_34
                have hn := ndg_eq hj h1 c_26
                have hj0 : ¬ j = 0 := by intro q; rw [q] at c_26; exact c_26 h2
                unfold numR; rw [hn, if_neg hj0, if_neg (by omega), ← hx]
                first
                | exact absurd hf1 c_94
                | (rw [if_neg c_99, hf1]; done)
                | (rw [if_pos c_99]; simp [stp, hf1]; done)
              · have hn : ndg S (skA S a) = 0 := by unfold ndg; rw [if_pos h2]
                first
                | exact absurd (hf1.symm.trans c_94) (nI_ne1 (by omega))
                | (unfold numR; rw [if_pos hn, hf1, hx, h0]; rfl)
            exact g_iretD C R dX3_number_118 (Nat.le_refl _) (Nat.le_refl _) (by rw [hnum]) (congrArg (fun z => wd K z h) (by rw [hnum])) rfl
          · skip
            have c_94 : ((f) : Int32) = -1 := c_94
            have hj0 : ¬ j = 0 := by rcases hf with ⟨h1, h2, h3⟩ | ⟨h1, h2, h3⟩; exact fun q => c_26 (by rw [q]; exact h3); exact absurd (h1.symm.trans c_94) (nI_ne1 (by omega))
            refine g_iload_n C (pc := 97) dX3_number_97 rfl ?_
            refine g_iload_n C (pc := 98) dX3_number_98 rfl ?_
            refine g_icmp_le C (pc := 99) (tgt := 117) dX3_number_99 (by decide) (fun c_99 => ?_) (fun c_99 => ?_)
            · skip
              have c_99 : ¬ ((w) : Int32) < x := c_99
              refine g_iload_n C (pc := 117) dX3_number_117 rfl ?_
              have hnum : numR S (skA S a) w = ((skA S a + j), f, x) := by
                rcases hf with ⟨hf1, h1, h2⟩ | ⟨hf1, h0, h2⟩
                · have c_26 : ¬ isDg S (skA S a + j) := by first | exact c_26 | exact absurd hf1 c_34
                  have hn := ndg_eq hj h1 c_26
                  have hj0 : ¬ j = 0 := by intro q; rw [q] at c_26; exact c_26 h2
                  unfold numR; rw [hn, if_neg hj0, if_neg (by omega), ← hx]
                  first
                  | exact absurd hf1 c_94
                  | (rw [if_neg c_99, hf1]; done)
                  | (rw [if_pos c_99]; simp [stp, hf1]; done)
                · have hn : ndg S (skA S a) = 0 := by unfold ndg; rw [if_pos h2]
                  first
                  | exact absurd (hf1.symm.trans c_94) (nI_ne1 (by omega))
                  | (unfold numR; rw [if_pos hn, hf1, hx, h0]; rfl)
              exact g_iretD C R dX3_number_118 (Nat.le_refl _) (Nat.le_refl _) (by rw [hnum]) (congrArg (fun z => wd K z h) (by rw [hnum])) rfl
            · skip
              have c_99 : ((w) : Int32) < x := c_99
              refine g_aload_n C (pc := 102) dX3_number_102 rfl rfl ?_
              refine g_dup C (pc := 103) dX3_number_103 rfl ?_
              refine m_geti C 55 (pc := 104) (v := nI (skA S a + j)) dX3_number_104 rfl q1248 rfl rfl ?_
              refine g_iconst C (pc := 107) (v := 1) dX3_number_107 (by decide) ?_
              refine g_isub C (pc := 108) dX3_number_108 ?_
              refine G.topc (x2 := nI (skA S a + j - 1)) (nI_dec (by omega)) ?_
              refine m_puti C 55 (pc := 109) dX3_number_109 rfl q1248 rfl rfl rfl ?_
              rw [pS_at]
              refine g_aload_n C (pc := 112) dX3_number_112 rfl rfl ?_
              refine g_callVD C (pc := 113) [] [] dX3_number_113 (c_X3_stop l D B K S h n (skA S a + j - 1) f e  hT (by omega)) (lw_V q1660 q1662 qs59 q87 q1663) (wd_20 _ _ _) rfl rfl ds_X3_stop ⟨rfl, rfl⟩ ⟨Nat.le_of_ble_eq_true rfl, Nat.le_of_ble_eq_true rfl⟩ rfl rfl ⟨Nat.le_of_ble_eq_true rfl, Nat.le_of_ble_eq_true rfl⟩ (Nat.le_of_ble_eq_true rfl) rfl ?_
              refine g_pop C (pc := 116) dX3_number_116 rfl ?_
              refine g_iload_n C (pc := 117) dX3_number_117 rfl ?_
              have hnum : numR S (skA S a) w = ((skA S a + j - 1), (stp f (skA S a + j - 1)), x) := by
                rcases hf with ⟨hf1, h1, h2⟩ | ⟨hf1, h0, h2⟩
                · have c_26 : ¬ isDg S (skA S a + j) := by first | exact c_26 | exact absurd hf1 c_34
                  have hn := ndg_eq hj h1 c_26
                  have hj0 : ¬ j = 0 := by intro q; rw [q] at c_26; exact c_26 h2
                  unfold numR; rw [hn, if_neg hj0, if_neg (by omega), ← hx]
                  first
                  | exact absurd hf1 c_94
                  | (rw [if_neg c_99, hf1]; done)
                  | (rw [if_pos c_99]; simp [stp, hf1]; done)
                · have hn : ndg S (skA S a) = 0 := by unfold ndg; rw [if_pos h2]
                  first
                  | exact absurd (hf1.symm.trans c_94) (nI_ne1 (by omega))
                  | (unfold numR; rw [if_pos hn, hf1, hx, h0]; rfl)
              exact g_iretD C R dX3_number_118 (Nat.le_refl _) (Nat.le_refl _) (by rw [hnum]) (congrArg (fun z => wd K z h) (by rw [hnum])) rfl
        · skip
          have c_26 : (isDg S (skA S a + j)) := p2i_n0.mp c_26
          refine g_aload_n C (pc := 29) dX3_number_29 rfl rfl ?_
          refine m_geti C 56 (pc := 30) (v := f) dX3_number_30 rfl q1249 rfl rfl ?_
          refine g_iconst C (pc := 33) (v := (-1)) dX3_number_33 (by decide) ?_
          refine g_icmp_ne C (pc := 34) (tgt := 89) dX3_number_34 (by decide) (fun c_34 => ?_) (fun c_34 => ?_)
          · skip
            have c_34 : ¬ ((f) : Int32) = -1 := c_34
            refine g_aload_n C (pc := 89) dX3_number_89 rfl rfl ?_
            refine m_geti C 56 (pc := 90) (v := f) dX3_number_90 rfl q1249 rfl rfl ?_
            refine g_iconst C (pc := 93) (v := (-1)) dX3_number_93 (by decide) ?_
            refine g_icmp_ne C (pc := 94) (tgt := 117) dX3_number_94 (by decide) (fun c_94 => ?_) (fun c_94 => absurd c_94 c_34)
            refine g_iload_n C (pc := 117) dX3_number_117 rfl ?_
            have hnum : numR S (skA S a) w = ((skA S a + j), f, x) := by
              rcases hf with ⟨hf1, h1, h2⟩ | ⟨hf1, h0, h2⟩
              · have c_26 : ¬ isDg S (skA S a + j) := by first | exact c_26 | exact absurd hf1 c_34
                have hn := ndg_eq hj h1 c_26
                have hj0 : ¬ j = 0 := by intro q; rw [q] at c_26; exact c_26 h2
                unfold numR; rw [hn, if_neg hj0, if_neg (by omega), ← hx]
                first
                | exact absurd hf1 c_94
                | (rw [if_neg c_99, hf1]; done)
                | (rw [if_pos c_99]; simp [stp, hf1]; done)
              · have hn : ndg S (skA S a) = 0 := by unfold ndg; rw [if_pos h2]
                first
                | exact absurd (hf1.symm.trans c_94) (nI_ne1 (by omega))
                | (unfold numR; rw [if_pos hn, hf1, hx, h0]; rfl)
            exact g_iretD C R dX3_number_118 (Nat.le_refl _) (Nat.le_refl _) (by rw [hnum]) (congrArg (fun z => wd K z h) (by rw [hnum])) rfl
          · skip
            have c_34 : ((f) : Int32) = -1 := c_34
            refine g_iload C (pc := 37) dX3_number_37 rfl ?_
            refine g_iconst C (pc := 39) (v := 3) dX3_number_39 (by decide) ?_
            refine g_icmp_ne C (pc := 40) (tgt := 50) dX3_number_40 (by decide) (fun c_40 => ?_) (fun c_40 => ?_)
            · skip
              have c_40 : ¬ j = 3 := fun q => c_40 ((nI_eq (a := j) (b := 3) (by omega) (by omega)).mpr q)
              refine g_bipush C (pc := 50) (v := 10) dX3_number_50 (by decide) ?_
              refine g_iload_n C (pc := 52) dX3_number_52 rfl ?_
              refine g_imul C (pc := 53) dX3_number_53 ?_
              refine g_aload_n C (pc := 54) dX3_number_54 rfl rfl ?_
              refine m_gett C (pc := 55) (a := S.2.2.2) dX3_number_55 q1245 rfl ?_
              refine g_aload_n C (pc := 58) dX3_number_58 rfl rfl ?_
              refine m_geti C 53 (pc := 59) (v := nI (mN S 53)) dX3_number_59 rfl q1246 rfl hT.begins_ ?_
              refine g_aload_n C (pc := 62) dX3_number_62 rfl rfl ?_
              refine m_geti C 55 (pc := 63) (v := nI (skA S a + j)) dX3_number_63 rfl q1248 rfl rfl ?_
              refine g_iadd C (pc := 66) dX3_number_66 ?_
              refine G.topc (nI_add _ _) ?_
              refine m_bald C (pc := 67) (v := txS S (skA S a + j)) dX3_number_67 t21 tty (vp_in_nI (by omega) (by omega)) (congrArg n8 (gix _ (by omega))) ?_
              refine g_iadd C (pc := 68) dX3_number_68 ?_
              refine g_bipush C (pc := 69) (v := 48) dX3_number_69 (by decide) ?_
              refine g_isub C (pc := 71) dX3_number_71 ?_
              refine G.topi (fun x_72 e_x_72 => ?_)
              have e_x_72 : x_72 = ((10 * x) + (txS S (skA S a + j))) - 48 := e_x_72
              refine g_istore_n C (pc := 72) (L' := [some (.ref 20), some (.int w), none, some (.int x_72), some (.int (nI j))]) dX3_number_72 (by decide) rfl rfl ?_
              refine g_aload_n C (pc := 73) dX3_number_73 rfl rfl ?_
              refine g_dup C (pc := 74) dX3_number_74 rfl ?_
              refine m_geti C 55 (pc := 75) (v := nI (skA S a + j)) dX3_number_75 rfl q1248 rfl rfl ?_
              refine g_iconst C (pc := 78) (v := 1) dX3_number_78 (by decide) ?_
              refine g_iadd C (pc := 79) dX3_number_79 ?_
              refine G.topc (nI_1 _) ?_
              refine m_puti C 55 (pc := 80) dX3_number_80 rfl q1248 rfl rfl rfl ?_
              rw [pS_at]
              refine g_iinc C (pc := 83) (v := nI (j + 1)) (L' := [some (.ref 20), some (.int w), none, some (.int x_72), some (.int (nI (j + 1)))]) dX3_number_83 rfl (nI_inc _) (by decide) rfl rfl ?_
              refine g_goto C (pc := 86) (tgt := 22) dX3_number_86 (by decide) ?_
              refine G.mask [true, true, false, true, true] rfl ?_
              exact ih22 (j + 1) x_72 f (by omega) (by omega) (by rw [e_x_72, hx]; rfl) (by rcases hf with ⟨h1, h2, h3⟩ | ⟨h1, h2, h3⟩; exact Or.inl ⟨h1, fun i hi => by (rcases Nat.lt_or_ge i j with q | q); exact h2 i q; rw [show i = j by omega]; exact c_26, h3⟩; exact absurd (by rw [h2] at c_26; exact c_26) h3) (by omega)
            · skip
              have c_40 : j = 3 := (nI_eq (a := j) (b := 3) (by omega) (by omega)).mp c_40
              refine g_aload_n C (pc := 43) dX3_number_43 rfl rfl ?_
              refine g_callVD C (pc := 44) [] [] dX3_number_44 (c_X3_stop l D B K S h n (skA S a + j) f e  hT (by omega)) (lw_V q1660 q1662 qs59 q87 q1663) (wd_20 _ _ _) rfl rfl ds_X3_stop ⟨rfl, rfl⟩ ⟨Nat.le_of_ble_eq_true rfl, Nat.le_of_ble_eq_true rfl⟩ rfl rfl ⟨Nat.le_of_ble_eq_true rfl, Nat.le_of_ble_eq_true rfl⟩ (Nat.le_of_ble_eq_true rfl) rfl ?_
              refine g_pop C (pc := 47) dX3_number_47 rfl ?_
              refine g_iconst C (pc := 48) (v := 0) dX3_number_48 (by decide) ?_
              have hnum : numR S (skA S a) w = (skA S a + j, stp f (skA S a + j), 0) := by
                rcases hf with ⟨h1, h2, h3⟩ | ⟨h1, h2, h3⟩
                · have hn := ndg_4 (S := S) (s := skA S a) (fun i hi => by (rcases Nat.lt_or_ge i j with q | q); exact h2 i q; rw [show i = j by omega]; exact c_26)
                  unfold numR; rw [hn, if_neg (by decide), if_pos rfl, show j = 3 by omega]; simp [stp, h1]
                · exact absurd h2 (by omega)
              exact g_iretD C R dX3_number_49 (Nat.le_refl _) (Nat.le_refl _) (by rw [hnum]) (congrArg (fun z => wd K z h) (by rw [hnum])) rfl
    refine G.mask [true, true, false, true, true] rfl ?_
    exact loop_22 _ 0 0 (-1) (Nat.zero_le _) (hska) (rfl) (by first | exact Or.inl ⟨rfl, fun i hi => absurd hi (Nat.not_lt_zero _), c_9⟩ | exact Or.inr ⟨rfl, rfl, c_9⟩) (Nat.lt_succ_self _)
  · skip
    have c_9 : ¬ (isDg S (skA S a)) := p2i_0.mp c_9
    refine g_aload_n C (pc := 12) dX3_number_12 rfl rfl ?_
    refine g_callVD C (pc := 13) [] [] dX3_number_13 (c_X3_stop l D B K S h n (skA S a) (-1) e  hT (by omega)) (lw_V q1660 q1662 qs59 q87 q1663) (wd_20 _ _ _) rfl rfl ds_X3_stop ⟨rfl, rfl⟩ ⟨Nat.le_of_ble_eq_true rfl, Nat.le_of_ble_eq_true rfl⟩ rfl rfl ⟨Nat.le_of_ble_eq_true rfl, Nat.le_of_ble_eq_true rfl⟩ (Nat.le_of_ble_eq_true rfl) rfl ?_
    refine g_pop C (pc := 16) dX3_number_16 rfl ?_
    refine g_iconst C (pc := 17) (v := 0) dX3_number_17 (by decide) ?_
    refine g_istore_n C (pc := 18) (L' := [some (.ref 20), some (.int w), some (.int (lookV S a)), some (.int 0), none]) dX3_number_18 (by decide) rfl rfl ?_
    refine g_iconst C (pc := 19) (v := 0) dX3_number_19 (by decide) ?_
    refine g_istore C (pc := 20) (L' := [some (.ref 20), some (.int w), some (.int (lookV S a)), some (.int 0), some (.int 0)]) dX3_number_20 (by decide) rfl rfl ?_
    have loop_22 : ∀ (d22 : Nat) (j : Nat) (x : Int32) (f : Int32), (j ≤ 3) → (skA S a + j ≤ (mN S 54)) → (x = nvl S (skA S a) j) → ((f = -1 ∧ (∀ i, i < j → isDg S (skA S a + i)) ∧ isDg S (skA S a)) ∨ (f = nI (skA S a) ∧ j = 0 ∧ ¬ isDg S (skA S a))) → 3 - j < d22 → G X D B (wd K (pS S (skA S a + j) f e) h) n 0 0 [some (.ref 20), some (.int w), none, some (.int x), some (.int (nI j))] 22 [] := by
      intro d22
      induction d22 with
      | zero =>
        intro j x f hj hjE hx hf hm22
        exact absurd hm22 (Nat.not_lt_zero _)
      | succ d22 ih22 =>
        intro j x f hj hjE hx hf hm22
        refine g_aload_n C (pc := 22) dX3_number_22 rfl rfl ?_
        refine g_callVD C (pc := 23) [] [] dX3_number_23 (c_X3_isDigit l D B K S h n (skA S a + j) f e  hT (by omega)) (lw_V q1672 q1674 qs62 q87 q1675) (wd_20 _ _ _) rfl rfl ds_X3_isDigit ⟨rfl, rfl⟩ ⟨Nat.le_of_ble_eq_true rfl, Nat.le_of_ble_eq_true rfl⟩ rfl rfl ⟨Nat.le_of_ble_eq_true rfl, Nat.le_of_ble_eq_true rfl⟩ (Nat.le_of_ble_eq_true rfl) rfl ?_
        refine g_if_eq C (pc := 26) (tgt := 89) dX3_number_26 (by decide) (fun c_26 => ?_) (fun c_26 => ?_)
        · skip
          have c_26 : ¬ (isDg S (skA S a + j)) := p2i_0.mp c_26
          refine g_aload_n C (pc := 89) dX3_number_89 rfl rfl ?_
          refine m_geti C 56 (pc := 90) (v := f) dX3_number_90 rfl q1249 rfl rfl ?_
          refine g_iconst C (pc := 93) (v := (-1)) dX3_number_93 (by decide) ?_
          refine g_icmp_ne C (pc := 94) (tgt := 117) dX3_number_94 (by decide) (fun c_94 => ?_) (fun c_94 => ?_)
          · skip
            have c_94 : ¬ ((f) : Int32) = -1 := c_94
            refine g_iload_n C (pc := 117) dX3_number_117 rfl ?_
            have hnum : numR S (skA S a) w = ((skA S a + j), f, x) := by
              rcases hf with ⟨hf1, h1, h2⟩ | ⟨hf1, h0, h2⟩
              · have c_26 : ¬ isDg S (skA S a + j) := by first | exact c_26 | exact absurd hf1 c_34
                have hn := ndg_eq hj h1 c_26
                have hj0 : ¬ j = 0 := by intro q; rw [q] at c_26; exact c_26 h2
                unfold numR; rw [hn, if_neg hj0, if_neg (by omega), ← hx]
                first
                | exact absurd hf1 c_94
                | (rw [if_neg c_99, hf1]; done)
                | (rw [if_pos c_99]; simp [stp, hf1]; done)
              · have hn : ndg S (skA S a) = 0 := by unfold ndg; rw [if_pos h2]
                first
                | exact absurd (hf1.symm.trans c_94) (nI_ne1 (by omega))
                | (unfold numR; rw [if_pos hn, hf1, hx, h0]; rfl)
            exact g_iretD C R dX3_number_118 (Nat.le_refl _) (Nat.le_refl _) (by rw [hnum]) (congrArg (fun z => wd K z h) (by rw [hnum])) rfl
          · skip
            have c_94 : ((f) : Int32) = -1 := c_94
            have hj0 : ¬ j = 0 := by rcases hf with ⟨h1, h2, h3⟩ | ⟨h1, h2, h3⟩; exact fun q => c_26 (by rw [q]; exact h3); exact absurd (h1.symm.trans c_94) (nI_ne1 (by omega))
            refine g_iload_n C (pc := 97) dX3_number_97 rfl ?_
            refine g_iload_n C (pc := 98) dX3_number_98 rfl ?_
            refine g_icmp_le C (pc := 99) (tgt := 117) dX3_number_99 (by decide) (fun c_99 => ?_) (fun c_99 => ?_)
            · skip
              have c_99 : ¬ ((w) : Int32) < x := c_99
              refine g_iload_n C (pc := 117) dX3_number_117 rfl ?_
              have hnum : numR S (skA S a) w = ((skA S a + j), f, x) := by
                rcases hf with ⟨hf1, h1, h2⟩ | ⟨hf1, h0, h2⟩
                · have c_26 : ¬ isDg S (skA S a + j) := by first | exact c_26 | exact absurd hf1 c_34
                  have hn := ndg_eq hj h1 c_26
                  have hj0 : ¬ j = 0 := by intro q; rw [q] at c_26; exact c_26 h2
                  unfold numR; rw [hn, if_neg hj0, if_neg (by omega), ← hx]
                  first
                  | exact absurd hf1 c_94
                  | (rw [if_neg c_99, hf1]; done)
                  | (rw [if_pos c_99]; simp [stp, hf1]; done)
                · have hn : ndg S (skA S a) = 0 := by unfold ndg; rw [if_pos h2]
                  first
                  | exact absurd (hf1.symm.trans c_94) (nI_ne1 (by omega))
                  | (unfold numR; rw [if_pos hn, hf1, hx, h0]; rfl)
              exact g_iretD C R dX3_number_118 (Nat.le_refl _) (Nat.le_refl _) (by rw [hnum]) (congrArg (fun z => wd K z h) (by rw [hnum])) rfl
            · skip
              have c_99 : ((w) : Int32) < x := c_99
              refine g_aload_n C (pc := 102) dX3_number_102 rfl rfl ?_
              refine g_dup C (pc := 103) dX3_number_103 rfl ?_
              refine m_geti C 55 (pc := 104) (v := nI (skA S a + j)) dX3_number_104 rfl q1248 rfl rfl ?_
              refine g_iconst C (pc := 107) (v := 1) dX3_number_107 (by decide) ?_
              refine g_isub C (pc := 108) dX3_number_108 ?_
              refine G.topc (x2 := nI (skA S a + j - 1)) (nI_dec (by omega)) ?_
              refine m_puti C 55 (pc := 109) dX3_number_109 rfl q1248 rfl rfl rfl ?_
              rw [pS_at]
              refine g_aload_n C (pc := 112) dX3_number_112 rfl rfl ?_
              refine g_callVD C (pc := 113) [] [] dX3_number_113 (c_X3_stop l D B K S h n (skA S a + j - 1) f e  hT (by omega)) (lw_V q1660 q1662 qs59 q87 q1663) (wd_20 _ _ _) rfl rfl ds_X3_stop ⟨rfl, rfl⟩ ⟨Nat.le_of_ble_eq_true rfl, Nat.le_of_ble_eq_true rfl⟩ rfl rfl ⟨Nat.le_of_ble_eq_true rfl, Nat.le_of_ble_eq_true rfl⟩ (Nat.le_of_ble_eq_true rfl) rfl ?_
              refine g_pop C (pc := 116) dX3_number_116 rfl ?_
              refine g_iload_n C (pc := 117) dX3_number_117 rfl ?_
              have hnum : numR S (skA S a) w = ((skA S a + j - 1), (stp f (skA S a + j - 1)), x) := by
                rcases hf with ⟨hf1, h1, h2⟩ | ⟨hf1, h0, h2⟩
                · have c_26 : ¬ isDg S (skA S a + j) := by first | exact c_26 | exact absurd hf1 c_34
                  have hn := ndg_eq hj h1 c_26
                  have hj0 : ¬ j = 0 := by intro q; rw [q] at c_26; exact c_26 h2
                  unfold numR; rw [hn, if_neg hj0, if_neg (by omega), ← hx]
                  first
                  | exact absurd hf1 c_94
                  | (rw [if_neg c_99, hf1]; done)
                  | (rw [if_pos c_99]; simp [stp, hf1]; done)
                · have hn : ndg S (skA S a) = 0 := by unfold ndg; rw [if_pos h2]
                  first
                  | exact absurd (hf1.symm.trans c_94) (nI_ne1 (by omega))
                  | (unfold numR; rw [if_pos hn, hf1, hx, h0]; rfl)
              exact g_iretD C R dX3_number_118 (Nat.le_refl _) (Nat.le_refl _) (by rw [hnum]) (congrArg (fun z => wd K z h) (by rw [hnum])) rfl
        · skip
          have c_26 : (isDg S (skA S a + j)) := p2i_n0.mp c_26
          refine g_aload_n C (pc := 29) dX3_number_29 rfl rfl ?_
          refine m_geti C 56 (pc := 30) (v := f) dX3_number_30 rfl q1249 rfl rfl ?_
          refine g_iconst C (pc := 33) (v := (-1)) dX3_number_33 (by decide) ?_
          refine g_icmp_ne C (pc := 34) (tgt := 89) dX3_number_34 (by decide) (fun c_34 => ?_) (fun c_34 => ?_)
          · skip
            have c_34 : ¬ ((f) : Int32) = -1 := c_34
            refine g_aload_n C (pc := 89) dX3_number_89 rfl rfl ?_
            refine m_geti C 56 (pc := 90) (v := f) dX3_number_90 rfl q1249 rfl rfl ?_
            refine g_iconst C (pc := 93) (v := (-1)) dX3_number_93 (by decide) ?_
            refine g_icmp_ne C (pc := 94) (tgt := 117) dX3_number_94 (by decide) (fun c_94 => ?_) (fun c_94 => absurd c_94 c_34)
            refine g_iload_n C (pc := 117) dX3_number_117 rfl ?_
            have hnum : numR S (skA S a) w = ((skA S a + j), f, x) := by
              rcases hf with ⟨hf1, h1, h2⟩ | ⟨hf1, h0, h2⟩
              · have c_26 : ¬ isDg S (skA S a + j) := by first | exact c_26 | exact absurd hf1 c_34
                have hn := ndg_eq hj h1 c_26
                have hj0 : ¬ j = 0 := by intro q; rw [q] at c_26; exact c_26 h2
                unfold numR; rw [hn, if_neg hj0, if_neg (by omega), ← hx]
                first
                | exact absurd hf1 c_94
                | (rw [if_neg c_99, hf1]; done)
                | (rw [if_pos c_99]; simp [stp, hf1]; done)
              · have hn : ndg S (skA S a) = 0 := by unfold ndg; rw [if_pos h2]
                first
                | exact absurd (hf1.symm.trans c_94) (nI_ne1 (by omega))
                | (unfold numR; rw [if_pos hn, hf1, hx, h0]; rfl)
            exact g_iretD C R dX3_number_118 (Nat.le_refl _) (Nat.le_refl _) (by rw [hnum]) (congrArg (fun z => wd K z h) (by rw [hnum])) rfl
          · skip
            have c_34 : ((f) : Int32) = -1 := c_34
            refine g_iload C (pc := 37) dX3_number_37 rfl ?_
            refine g_iconst C (pc := 39) (v := 3) dX3_number_39 (by decide) ?_
            refine g_icmp_ne C (pc := 40) (tgt := 50) dX3_number_40 (by decide) (fun c_40 => ?_) (fun c_40 => ?_)
            · skip
              have c_40 : ¬ j = 3 := fun q => c_40 ((nI_eq (a := j) (b := 3) (by omega) (by omega)).mpr q)
              refine g_bipush C (pc := 50) (v := 10) dX3_number_50 (by decide) ?_
              refine g_iload_n C (pc := 52) dX3_number_52 rfl ?_
              refine g_imul C (pc := 53) dX3_number_53 ?_
              refine g_aload_n C (pc := 54) dX3_number_54 rfl rfl ?_
              refine m_gett C (pc := 55) (a := S.2.2.2) dX3_number_55 q1245 rfl ?_
              refine g_aload_n C (pc := 58) dX3_number_58 rfl rfl ?_
              refine m_geti C 53 (pc := 59) (v := nI (mN S 53)) dX3_number_59 rfl q1246 rfl hT.begins_ ?_
              refine g_aload_n C (pc := 62) dX3_number_62 rfl rfl ?_
              refine m_geti C 55 (pc := 63) (v := nI (skA S a + j)) dX3_number_63 rfl q1248 rfl rfl ?_
              refine g_iadd C (pc := 66) dX3_number_66 ?_
              refine G.topc (nI_add _ _) ?_
              refine m_bald C (pc := 67) (v := txS S (skA S a + j)) dX3_number_67 t21 tty (vp_in_nI (by omega) (by omega)) (congrArg n8 (gix _ (by omega))) ?_
              refine g_iadd C (pc := 68) dX3_number_68 ?_
              refine g_bipush C (pc := 69) (v := 48) dX3_number_69 (by decide) ?_
              refine g_isub C (pc := 71) dX3_number_71 ?_
              refine G.topi (fun x_72 e_x_72 => ?_)
              have e_x_72 : x_72 = ((10 * x) + (txS S (skA S a + j))) - 48 := e_x_72
              refine g_istore_n C (pc := 72) (L' := [some (.ref 20), some (.int w), none, some (.int x_72), some (.int (nI j))]) dX3_number_72 (by decide) rfl rfl ?_
              refine g_aload_n C (pc := 73) dX3_number_73 rfl rfl ?_
              refine g_dup C (pc := 74) dX3_number_74 rfl ?_
              refine m_geti C 55 (pc := 75) (v := nI (skA S a + j)) dX3_number_75 rfl q1248 rfl rfl ?_
              refine g_iconst C (pc := 78) (v := 1) dX3_number_78 (by decide) ?_
              refine g_iadd C (pc := 79) dX3_number_79 ?_
              refine G.topc (nI_1 _) ?_
              refine m_puti C 55 (pc := 80) dX3_number_80 rfl q1248 rfl rfl rfl ?_
              rw [pS_at]
              refine g_iinc C (pc := 83) (v := nI (j + 1)) (L' := [some (.ref 20), some (.int w), none, some (.int x_72), some (.int (nI (j + 1)))]) dX3_number_83 rfl (nI_inc _) (by decide) rfl rfl ?_
              refine g_goto C (pc := 86) (tgt := 22) dX3_number_86 (by decide) ?_
              refine G.mask [true, true, false, true, true] rfl ?_
              exact ih22 (j + 1) x_72 f (by omega) (by omega) (by rw [e_x_72, hx]; rfl) (by rcases hf with ⟨h1, h2, h3⟩ | ⟨h1, h2, h3⟩; exact Or.inl ⟨h1, fun i hi => by (rcases Nat.lt_or_ge i j with q | q); exact h2 i q; rw [show i = j by omega]; exact c_26, h3⟩; exact absurd (by rw [h2] at c_26; exact c_26) h3) (by omega)
            · skip
              have c_40 : j = 3 := (nI_eq (a := j) (b := 3) (by omega) (by omega)).mp c_40
              refine g_aload_n C (pc := 43) dX3_number_43 rfl rfl ?_
              refine g_callVD C (pc := 44) [] [] dX3_number_44 (c_X3_stop l D B K S h n (skA S a + j) f e  hT (by omega)) (lw_V q1660 q1662 qs59 q87 q1663) (wd_20 _ _ _) rfl rfl ds_X3_stop ⟨rfl, rfl⟩ ⟨Nat.le_of_ble_eq_true rfl, Nat.le_of_ble_eq_true rfl⟩ rfl rfl ⟨Nat.le_of_ble_eq_true rfl, Nat.le_of_ble_eq_true rfl⟩ (Nat.le_of_ble_eq_true rfl) rfl ?_
              refine g_pop C (pc := 47) dX3_number_47 rfl ?_
              refine g_iconst C (pc := 48) (v := 0) dX3_number_48 (by decide) ?_
              have hnum : numR S (skA S a) w = (skA S a + j, stp f (skA S a + j), 0) := by
                rcases hf with ⟨h1, h2, h3⟩ | ⟨h1, h2, h3⟩
                · have hn := ndg_4 (S := S) (s := skA S a) (fun i hi => by (rcases Nat.lt_or_ge i j with q | q); exact h2 i q; rw [show i = j by omega]; exact c_26)
                  unfold numR; rw [hn, if_neg (by decide), if_pos rfl, show j = 3 by omega]; simp [stp, h1]
                · exact absurd h2 (by omega)
              exact g_iretD C R dX3_number_49 (Nat.le_refl _) (Nat.le_refl _) (by rw [hnum]) (congrArg (fun z => wd K z h) (by rw [hnum])) rfl
    refine G.mask [true, true, false, true, true] rfl ?_
    exact loop_22 _ 0 0 (stp (-1) (skA S a)) (Nat.zero_le _) (hska) (rfl) (by first | exact Or.inl ⟨rfl, fun i hi => absurd hi (Nat.not_lt_zero _), c_9⟩ | exact Or.inr ⟨rfl, rfl, c_9⟩) (Nat.lt_succ_self _)
theorem ds_X3_number : yX3_number.cls ≠ "java/lang/invoke/MethodHandle" ∧ yX3_number.cls ≠ "java/lang/invoke/VarHandle" ∧ (parseMethodDescriptor yX3_number.desc).map (fun d => d.parameters.length) = some 1 := by decide +kernel
def sayU (A : Nat → Nat → Int32) (h od o dy sn : Int32) : Nat → Int32
  | 0 => -1
  | i + 1 => if A 53 i = h ∧ nb (A 59 i) = od ∧ A 54 i = o ∧ ¬ dy < A 55 i ∧ ¬ sn < A 55 i then (if A 58 i = 0 then 0 else 1) else sayU A h od o dy sn i
def saysS (S : MS) (h : Int32) : Int32 := sayU S.2.1 h (nb (S.1 62)) (S.1 58) (S.1 59) (S.1 60) (mN S 51)
def leafV (S : MS) (c v : Int32) : Bool := if c = 119 then decide (¬ (S.1 61) = -1 ∧ ¬ (S.1 59) - (S.1 61) < v) else if c = 100 then decide (nb (S.1 62) = 0 ∧ ¬ nb ((S.2.1 60) v.toNatClampNeg) = 0) else decide (saysS S v = if c = 104 then 1 else 0)
abbrev PR : Type := Nat × Int32 × Int32 × Bool
def bindP (r : Option PR) (k : Nat → Int32 → Bool → Option PR) (g : Bool → Bool) : Option PR := match r with
  | none => none
  | some q => if q.2.1 = -1 then k q.1 q.2.2.1 q.2.2.2 else some (q.1, q.2.1, q.2.2.1, g q.2.2.2)
theorem bindP_some {r : Option PR} {k : Nat → Int32 → Bool → Option PR} {g : Bool → Bool} {q : PR} (h : bindP r k g = some q) : ∃ x, r = some x ∧ ((x.2.1 = -1 ∧ k x.1 x.2.2.1 x.2.2.2 = some q) ∨ (¬ x.2.1 = -1 ∧ q = (x.1, x.2.1, x.2.2.1, g x.2.2.2))) := by
  cases r with
  | none => cases h
  | some x =>
    refine ⟨x, rfl, ?_⟩
    by_cases hx : x.2.1 = -1
    · exact Or.inl ⟨hx, by simp only [bindP, if_pos hx] at h; exact h⟩
    · exact Or.inr ⟨hx, by simp only [bindP, if_neg hx] at h; exact (Option.some.inj h).symm⟩
def unitF (S : MS) (R : Nat → Bool → Int32 → Int32 → Nat → Int32 → Option PR) (a : Nat) (e : Int32) : Option PR :=
  if lookV S a = 33 then (if e = 8 then some (skA S a, nI (skA S a), e, false) else (R 2 false 0 0 (skA S a + 1) (e + 1)).map (fun q => (q.1, q.2.1, q.2.2.1 - 1, !q.2.2.2)))
  else if lookV S a = 40 then (if e = 8 then some (skA S a, nI (skA S a), e, false) else bindP (R 0 false 0 0 (skA S a + 1) (e + 1)) (fun a e b2 => if lookV S a = 41 then some (skA S a + 1, -1, e - 1, b2) else some (skA S a, nI (skA S a), e, false)) (fun _ => false))
  else if lookV S a = 104 ∨ lookV S a = 110 ∨ lookV S a = 100 then some ((numR S (skA S (skA S a + 1)) 11).1, (numR S (skA S (skA S a + 1)) 11).2.1, e, if (numR S (skA S (skA S a + 1)) 11).2.1 = -1 then leafV S (lookV S a) (numR S (skA S (skA S a + 1)) 11).2.2 else false)
  else if lookV S a = 119 then some ((numR S (skA S (skA S a + 1)) 999).1, (numR S (skA S (skA S a + 1)) 999).2.1, e, if (numR S (skA S (skA S a + 1)) 999).2.1 = -1 then leafV S 119 (numR S (skA S (skA S a + 1)) 999).2.2 else false)
  else if ¬ (numR S (skA S a) 999).2.1 = -1 then some ((numR S (skA S a) 999).1, (numR S (skA S a) 999).2.1, e, false)
  else if ¬ lookV S (numR S (skA S a) 999).1 = 123 ∨ e = 8 then some (skA S (numR S (skA S a) 999).1, nI (skA S (numR S (skA S a) 999).1), e, false)
  else bindP (R 0 false 0 0 (skA S (numR S (skA S a) 999).1 + 1) (e + 1)) (fun a1 e1 b2 => R 5 false (numR S (skA S a) 999).2.2 (b2i b2) a1 e1) (fun _ => false)
/-- rules as they are read: 0 any, 1 all, 2 unit, 3 more of any, 4 more of all, 5 more of a row -/
def P (S : MS) : Nat → Nat → Bool → Int32 → Int32 → Nat → Int32 → Option PR
  | 0 => fun _ _ _ _ _ _ => none
  | n + 1 => fun mode b w c a e =>
    if mode = 0 then bindP (P S n 1 false 0 0 a e) (fun a e b2 => P S n 3 b2 0 0 a e) (fun b2 => b2)
    else if mode = 1 then bindP (P S n 2 false 0 0 a e) (fun a e b2 => P S n 4 b2 0 0 a e) (fun b2 => b2)
    else if mode = 3 then (if lookV S a = 124 then bindP (P S n 1 false 0 0 (skA S a + 1) e) (fun a e b2 => P S n 3 (b || b2) 0 0 a e) (fun b2 => b || b2) else some (skA S a, -1, e, b))
    else if mode = 4 then (if lookV S a = 38 then bindP (P S n 2 false 0 0 (skA S a + 1) e) (fun a e b2 => P S n 4 (b && b2) 0 0 a e) (fun b2 => b && b2) else some (skA S a, -1, e, b))
    else if mode = 5 then (if lookV S a = 44 then bindP (P S n 0 false 0 0 (skA S a + 1) e) (fun a e b2 => P S n 5 false w (c + b2i b2) a e) (fun _ => false) else if lookV S a = 125 then some (skA S a + 1, -1, e - 1, decide (¬ c < w)) else some (skA S a, nI (skA S a), e, false))
    else unitF S (P S n) a e
theorem numR_le {S : MS} {s : Nat} {w : Int32} (h : s ≤ (mN S 54)) : (numR S s w).1 ≤ (mN S 54) := by
  have r := ndg_rng S s
  have l : ∀ j, j < ndg S s → s + j < (mN S 54) := fun j hj => (r.2 j hj).1
  have l1 := l (ndg S s - 1)
  unfold numR
  split
  · exact h
  · split
    · show s + 3 ≤ _; omega
    · split
      · show s + ndg S s - 1 ≤ _; omega
      · show s + ndg S s ≤ _; omega
theorem nvl_rng {S : MS} {s : Nat} : ∀ j, j ≤ 3 → (∀ i, i < j → isDg S (s + i)) → ∃ q, q < 10 ^ j ∧ nvl S s j = nI q := by
  intro j
  induction j with
  | zero => exact fun _ _ => ⟨0, by omega, rfl⟩
  | succ j ih =>
    intro hj hd
    obtain ⟨q, hq, e⟩ := ih (by omega) (fun i hi => hd i (by omega))
    obtain ⟨-, h1, h2⟩ := hd j (by omega)
    obtain ⟨t, ht, et⟩ := nI_of (x := txS S (s + j)) (fun q => h1 (Int32.lt_trans q (by decide)))
    rw [et] at h1 h2
    have h1 : 48 ≤ t := Nat.not_lt.mp fun q => h1 ((nI_ltI (a := t) (b := 48) (by omega) (by omega)).mpr q)
    have h2 : t ≤ 57 := Nat.not_lt.mp fun q => h2 ((nI_ltI (a := 57) (b := t) (by omega) (by omega)).mpr q)
    have hp : 10 ^ (j + 1) = 10 * 10 ^ j := by rw [Nat.pow_succ, Nat.mul_comm]
    refine ⟨10 * q + (t - 48), by omega, ?_⟩
    simp only [nvl]
    rw [e, et]
    have h10 : (10 : Int32) * nI q = nI (10 * q) := (Int32.ofNat_mul 10 q).symm
    rw [h10, nI_add, show (48 : Int32) = nI 48 from rfl]
    have h48 : nI (10 * q + t) = nI (10 * q + (t - 48)) + nI 48 := by rw [nI_add]; congr 1; omega
    rw [h48]
    exact Int32.add_sub_cancel _ _
theorem numR_ok {S : MS} {s : Nat} {w : Int32} {W : Nat} (hw : w = nI W) (hW : W < 2 ^ 30) (hs : s < 2 ^ 20) (h : (numR S s w).2.1 = -1) : ∃ q, q ≤ W ∧ (numR S s w).2.2 = nI q := by
  have r := ndg_rng S s
  unfold numR at h ⊢
  by_cases h0 : ndg S s = 0
  · rw [if_pos h0] at h; exact absurd h (nI_ne1 (by omega))
  · rw [if_neg h0] at h ⊢
    by_cases h4 : ndg S s = 4
    · rw [if_pos h4] at h; exact absurd h (nI_ne1 (by omega))
    · rw [if_neg h4] at h ⊢
      by_cases hm : w < nvl S s (ndg S s)
      · rw [if_pos hm] at h; exact absurd h (nI_ne1 (by omega))
      · rw [if_neg hm]
        obtain ⟨q, hq, e⟩ := nvl_rng (S := S) (s := s) (ndg S s) (by omega) r.2
        refine ⟨q, ?_, e⟩
        have h3 : 10 ^ ndg S s ≤ 10 ^ 3 := Nat.pow_le_pow_right (by decide) (by omega)
        rw [e, hw] at hm
        exact Nat.not_lt.mp fun z => hm ((nI_ltI (by omega) (by omega)).mpr z)
theorem bindP_le {S : MS} {r : Option PR} {k : Nat → Int32 → Bool → Option PR} {g : Bool → Bool} {q : PR} (h1 : bindP r k g = some q) (h2 : ∀ x, r = some x → x.1 ≤ (mN S 54)) (h3 : ∀ a e b, a ≤ (mN S 54) → k a e b = some q → q.1 ≤ (mN S 54)) : q.1 ≤ (mN S 54) := by
  obtain ⟨x, hx, h4⟩ := bindP_some h1
  rcases h4 with ⟨-, h4⟩ | ⟨-, h4⟩
  · exact h3 _ _ _ (h2 x hx) h4
  · rw [h4]; exact h2 x hx
theorem unitF_le {S : MS} {R : Nat → Bool → Int32 → Int32 → Nat → Int32 → Option PR} (ih : ∀ mode b w c a e q, R mode b w c a e = some q → a ≤ (mN S 54) → q.1 ≤ (mN S 54)) {a : Nat} {e : Int32} {q : PR} (h : unitF S R a e = some q) (ha : a ≤ (mN S 54)) : q.1 ≤ (mN S 54) := by
    have hs := sk_le ha
    unfold unitF at h
    split at h
    · rename_i hl; have hl := look_lt hl (by decide)
      split at h
      · cases h; exact hs
      · obtain ⟨x, hx, e1⟩ := Option.map_eq_some_iff.mp h
        have z := ih _ _ _ _ _ _ _ hx (by omega)
        rw [← e1]
        exact z
    split at h
    · rename_i hl; have hl := look_lt hl (by decide)
      split at h
      · cases h; exact hs
      · refine bindP_le h (fun x hx => ih _ _ _ _ _ _ _ hx (by omega)) (fun a e b h1 h2 => ?_)
        split at h2
        · rename_i hl2; have hl2 := look_lt hl2 (by decide)
          cases h2; exact hl2
        · cases h2; exact sk_le h1
    split at h
    · rename_i hl; have hl : skA S a < (mN S 54) := by rcases hl with z | z | z <;> exact look_lt z (by decide)
      cases h; exact numR_le (sk_le (by omega))
    split at h
    · rename_i hl; have hl := look_lt hl (by decide)
      cases h; exact numR_le (sk_le (by omega))
    split at h
    · cases h; exact numR_le hs
    split at h
    · cases h; exact sk_le (numR_le hs)
    · rename_i hl; have hl := look_lt (Decidable.not_not.mp fun z => hl (Or.inl z)) (by decide)
      exact bindP_le h (fun x hx => ih _ _ _ _ _ _ _ hx (by omega)) (fun a e b h1 h2 => ih _ _ _ _ _ _ _ h2 h1)
theorem P_le {S : MS} : ∀ n mode b w c a e q, P S n mode b w c a e = some q → a ≤ (mN S 54) → q.1 ≤ (mN S 54) := by
  intro n
  induction n with
  | zero => intro mode b w c a e q h; cases h
  | succ n ih =>
    intro mode b w c a e q h ha
    have hs := sk_le ha
    simp only [P] at h
    split at h
    · exact bindP_le h (fun x hx => ih _ _ _ _ _ _ _ hx ha) (fun a e b h1 h2 => ih _ _ _ _ _ _ _ h2 h1)
    split at h
    · exact bindP_le h (fun x hx => ih _ _ _ _ _ _ _ hx ha) (fun a e b h1 h2 => ih _ _ _ _ _ _ _ h2 h1)
    split at h
    · split at h
      · rename_i hl; have hl := look_lt hl (by decide)
        exact bindP_le h (fun x hx => ih _ _ _ _ _ _ _ hx (by omega)) (fun a e b h1 h2 => ih _ _ _ _ _ _ _ h2 h1)
      · cases h; exact hs
    split at h
    · split at h
      · rename_i hl; have hl := look_lt hl (by decide)
        exact bindP_le h (fun x hx => ih _ _ _ _ _ _ _ hx (by omega)) (fun a e b h1 h2 => ih _ _ _ _ _ _ _ h2 h1)
      · cases h; exact hs
    split at h
    · split at h
      · rename_i hl; have hl := look_lt hl (by decide)
        exact bindP_le h (fun x hx => ih _ _ _ _ _ _ _ hx (by omega)) (fun a e b h1 h2 => ih _ _ _ _ _ _ _ h2 h1)
      split at h
      · rename_i hl; have hl := look_lt hl (by decide)
        cases h; exact hl
      · cases h; exact hs
    exact unitF_le (fun mode b w c a e q h ha => ih _ _ _ _ _ _ _ h ha) h ha
def prm (m : Nat) : Room := { frames := m + 4, cells := 0, slots := 0, locals := 40 * (m + 4) }
set_option maxHeartbeats 4000000 in
set_option maxRecDepth 100000 in
theorem c_X3_saysLast (l : Launch) (D : gD) (B : Nat × Nat) (K : KS) (S : MS) (h : gHp) (n : Nat) (h0 : Int32) (hS : MOK S) : Con l yX3_saysLast (ws_ yX3_saysLast cX3_saysLast 4 (some .int)) ({ frames := 0, cells := 0, slots := 0, locals := 0 }) D B [.ref 20, .int h0] (wd K S h) n (gdt (some (.int (saysS S h0))) (wd K (S) h) n) 0 0 := by
  have b12 := hS.c12.2
  have b13 := hS.c13.2
  have b14 := hS.c14.2
  have b16 := hS.c16.2
  have b29 := hS.c29.2
  have b30 := hS.c30.2
  have b31 := hS.c31.2
  have b48 := hS.c48.2
  have b49 := hS.c49.2
  have b50 := hS.c50.2
  have b51 := hS.c51.2
  have b77 := hS.c77.2
  have b78 := hS.c78.2
  have b79 := hS.c79.2
  have b82 := hS.c82.2
  refine Con.begin [some (.ref 20), some (.int h0), none, none] rfl rfl (Nat.le_of_ble_eq_true rfl) rfl rfl (fun X C R => ?_)
  refine g_iconst C (pc := 0) (v := (-1)) dX3_saysLast_0 (by decide) ?_
  refine g_istore_n C (pc := 1) (L' := [some (.ref 20), some (.int h0), some (.int (-1)), none]) dX3_saysLast_1 (by decide) rfl rfl ?_
  refine g_iconst C (pc := 2) (v := 0) dX3_saysLast_2 (by decide) ?_
  refine g_istore_n C (pc := 3) (L' := [some (.ref 20), some (.int h0), some (.int (-1)), some (.int 0)]) dX3_saysLast_3 (by decide) rfl rfl ?_
  have loop_4 : ∀ (d4 : Nat) (j : Nat) (x : Int32), (j ≤ (mN S 51)) → (x = sayU S.2.1 h0 (nb (S.1 62)) (S.1 58) (S.1 59) (S.1 60) j) → (mN S 51) - j < d4 → G X D B (wd K S h) n 0 0 [some (.ref 20), some (.int h0), some (.int x), some (.int (nI j))] 4 [] := by
    intro d4
    induction d4 with
    | zero =>
      intro j x hj hx hm4
      exact absurd hm4 (Nat.not_lt_zero _)
    | succ d4 ih4 =>
      intro j x hj hx hm4
      refine g_iload_n C (pc := 4) dX3_saysLast_4 rfl ?_
      refine g_aload_n C (pc := 5) dX3_saysLast_5 rfl rfl ?_
      refine m_geti C 51 (pc := 6) (v := nI (mN S 51)) dX3_saysLast_6 rfl q1244 rfl hS.c51.1 ?_
      refine g_icmp_ge C (pc := 9) (tgt := 95) dX3_saysLast_9 (by decide) (fun c_9 => ?_) (fun c_9 => ?_)
      · skip
        have c_9 : (mN S 51) ≤ j := Nat.not_lt.mp fun q => c_9 ((nI_ltI (a := j) (b := (mN S 51)) (by omega) (by omega)).mpr q)
        have hje : j = (mN S 51) := by omega
        refine g_iload_n C (pc := 95) dX3_saysLast_95 rfl ?_
        exact g_iretD C R dX3_saysLast_96 (Nat.le_refl _) (Nat.le_refl _) (by unfold saysS; rw [hx, hje]) rfl rfl
      · skip
        have c_9 : j < (mN S 51) := (nI_ltI (a := j) (b := (mN S 51)) (by omega) (by omega)).mp c_9
        refine g_aload_n C (pc := 12) dX3_saysLast_12 rfl rfl ?_
        refine m_geta C 41 53 (pc := 13) dX3_saysLast_13 (by decide) (fun _ => rfl) q1234 rfl ?_
        refine g_iload_n C (pc := 16) dX3_saysLast_16 rfl ?_
        refine m_iald C (pc := 17) (v := (S.2.1 53) j) dX3_saysLast_17 (by decide) rfl (vp_in_nI (by omega) (by decide)) (gix (S.2.1 53) (by omega)) ?_
        refine g_iload_n C (pc := 18) dX3_saysLast_18 rfl ?_
        refine g_icmp_ne C (pc := 19) (tgt := 89) dX3_saysLast_19 (by decide) (fun c_19 => ?_) (fun c_19 => ?_)
        · skip
          have c_19 : ¬ (((S.2.1 53) j) : Int32) = h0 := c_19
          refine g_iinc C (pc := 89) (v := nI (j + 1)) (L' := [some (.ref 20), some (.int h0), some (.int x), some (.int (nI (j + 1)))]) dX3_saysLast_89 rfl (nI_inc _) (by decide) rfl rfl ?_
          refine g_goto C (pc := 92) (tgt := 4) dX3_saysLast_92 (by decide) ?_
          refine G.mask [true, true, true, true] rfl ?_
          exact ih4 (j + 1) x (by omega) (by simp only [sayU]; first | (rw [if_pos ⟨c_19, c_32, c_45, c_58, c_71⟩]; first | (rw [if_pos c_80]; done) | (rw [if_neg c_80]; done)) | (rw [if_neg (by grind)]; exact hx)) (by omega)
        · skip
          have c_19 : (((S.2.1 53) j) : Int32) = h0 := c_19
          refine g_aload_n C (pc := 22) dX3_saysLast_22 rfl rfl ?_
          refine m_geta C 47 59 (pc := 23) dX3_saysLast_23 (by decide) (fun _ => rfl) q1240 rfl ?_
          refine g_iload_n C (pc := 26) dX3_saysLast_26 rfl ?_
          refine m_zald C (pc := 27) (v := nb ((S.2.1 59) j)) dX3_saysLast_27 (by decide) rfl (vp_in_nI (by omega) (by decide)) (congrArg nb (gix (S.2.1 59) (by omega))) ?_
          refine g_aload_n C (pc := 28) dX3_saysLast_28 rfl rfl ?_
          refine m_getz C (pc := 29) (v := nb (S.1 62)) dX3_saysLast_29 q1255 rfl ?_
          refine g_icmp_ne C (pc := 32) (tgt := 89) dX3_saysLast_32 (by decide) (fun c_32 => ?_) (fun c_32 => ?_)
          · skip
            have c_32 : ¬ ((nb ((S.2.1 59) j)) : Int32) = (nb (S.1 62)) := c_32
            refine g_iinc C (pc := 89) (v := nI (j + 1)) (L' := [some (.ref 20), some (.int h0), some (.int x), some (.int (nI (j + 1)))]) dX3_saysLast_89 rfl (nI_inc _) (by decide) rfl rfl ?_
            refine g_goto C (pc := 92) (tgt := 4) dX3_saysLast_92 (by decide) ?_
            refine G.mask [true, true, true, true] rfl ?_
            exact ih4 (j + 1) x (by omega) (by simp only [sayU]; first | (rw [if_pos ⟨c_19, c_32, c_45, c_58, c_71⟩]; first | (rw [if_pos c_80]; done) | (rw [if_neg c_80]; done)) | (rw [if_neg (by grind)]; exact hx)) (by omega)
          · skip
            have c_32 : ((nb ((S.2.1 59) j)) : Int32) = (nb (S.1 62)) := c_32
            refine g_aload_n C (pc := 35) dX3_saysLast_35 rfl rfl ?_
            refine m_geta C 42 54 (pc := 36) dX3_saysLast_36 (by decide) (fun _ => rfl) q1235 rfl ?_
            refine g_iload_n C (pc := 39) dX3_saysLast_39 rfl ?_
            refine m_iald C (pc := 40) (v := (S.2.1 54) j) dX3_saysLast_40 (by decide) rfl (vp_in_nI (by omega) (by decide)) (gix (S.2.1 54) (by omega)) ?_
            refine g_aload_n C (pc := 41) dX3_saysLast_41 rfl rfl ?_
            refine m_geti C 58 (pc := 42) (v := S.1 58) dX3_saysLast_42 rfl q1251 rfl rfl ?_
            refine g_icmp_ne C (pc := 45) (tgt := 89) dX3_saysLast_45 (by decide) (fun c_45 => ?_) (fun c_45 => ?_)
            · skip
              have c_45 : ¬ (((S.2.1 54) j) : Int32) = (S.1 58) := c_45
              refine g_iinc C (pc := 89) (v := nI (j + 1)) (L' := [some (.ref 20), some (.int h0), some (.int x), some (.int (nI (j + 1)))]) dX3_saysLast_89 rfl (nI_inc _) (by decide) rfl rfl ?_
              refine g_goto C (pc := 92) (tgt := 4) dX3_saysLast_92 (by decide) ?_
              refine G.mask [true, true, true, true] rfl ?_
              exact ih4 (j + 1) x (by omega) (by simp only [sayU]; first | (rw [if_pos ⟨c_19, c_32, c_45, c_58, c_71⟩]; first | (rw [if_pos c_80]; done) | (rw [if_neg c_80]; done)) | (rw [if_neg (by grind)]; exact hx)) (by omega)
            · skip
              have c_45 : (((S.2.1 54) j) : Int32) = (S.1 58) := c_45
              refine g_aload_n C (pc := 48) dX3_saysLast_48 rfl rfl ?_
              refine m_geta C 43 55 (pc := 49) dX3_saysLast_49 (by decide) (fun _ => rfl) q1236 rfl ?_
              refine g_iload_n C (pc := 52) dX3_saysLast_52 rfl ?_
              refine m_iald C (pc := 53) (v := (S.2.1 55) j) dX3_saysLast_53 (by decide) rfl (vp_in_nI (by omega) (by decide)) (gix (S.2.1 55) (by omega)) ?_
              refine g_aload_n C (pc := 54) dX3_saysLast_54 rfl rfl ?_
              refine m_geti C 59 (pc := 55) (v := S.1 59) dX3_saysLast_55 rfl q1252 rfl rfl ?_
              refine g_icmp_gt C (pc := 58) (tgt := 89) dX3_saysLast_58 (by decide) (fun c_58 => ?_) (fun c_58 => ?_)
              · skip
                have c_58 : ((S.1 59) : Int32) < ((S.2.1 55) j) := c_58
                refine g_iinc C (pc := 89) (v := nI (j + 1)) (L' := [some (.ref 20), some (.int h0), some (.int x), some (.int (nI (j + 1)))]) dX3_saysLast_89 rfl (nI_inc _) (by decide) rfl rfl ?_
                refine g_goto C (pc := 92) (tgt := 4) dX3_saysLast_92 (by decide) ?_
                refine G.mask [true, true, true, true] rfl ?_
                exact ih4 (j + 1) x (by omega) (by simp only [sayU]; first | (rw [if_pos ⟨c_19, c_32, c_45, c_58, c_71⟩]; first | (rw [if_pos c_80]; done) | (rw [if_neg c_80]; done)) | (rw [if_neg (by grind)]; exact hx)) (by omega)
              · skip
                have c_58 : ¬ ((S.1 59) : Int32) < ((S.2.1 55) j) := c_58
                refine g_aload_n C (pc := 61) dX3_saysLast_61 rfl rfl ?_
                refine m_geta C 43 55 (pc := 62) dX3_saysLast_62 (by decide) (fun _ => rfl) q1236 rfl ?_
                refine g_iload_n C (pc := 65) dX3_saysLast_65 rfl ?_
                refine m_iald C (pc := 66) (v := (S.2.1 55) j) dX3_saysLast_66 (by decide) rfl (vp_in_nI (by omega) (by decide)) (gix (S.2.1 55) (by omega)) ?_
                refine g_aload_n C (pc := 67) dX3_saysLast_67 rfl rfl ?_
                refine m_geti C 60 (pc := 68) (v := S.1 60) dX3_saysLast_68 rfl q1253 rfl rfl ?_
                refine g_icmp_gt C (pc := 71) (tgt := 89) dX3_saysLast_71 (by decide) (fun c_71 => ?_) (fun c_71 => ?_)
                · skip
                  have c_71 : ((S.1 60) : Int32) < ((S.2.1 55) j) := c_71
                  refine g_iinc C (pc := 89) (v := nI (j + 1)) (L' := [some (.ref 20), some (.int h0), some (.int x), some (.int (nI (j + 1)))]) dX3_saysLast_89 rfl (nI_inc _) (by decide) rfl rfl ?_
                  refine g_goto C (pc := 92) (tgt := 4) dX3_saysLast_92 (by decide) ?_
                  refine G.mask [true, true, true, true] rfl ?_
                  exact ih4 (j + 1) x (by omega) (by simp only [sayU]; first | (rw [if_pos ⟨c_19, c_32, c_45, c_58, c_71⟩]; first | (rw [if_pos c_80]; done) | (rw [if_neg c_80]; done)) | (rw [if_neg (by grind)]; exact hx)) (by omega)
                · skip
                  have c_71 : ¬ ((S.1 60) : Int32) < ((S.2.1 55) j) := c_71
                  refine g_aload_n C (pc := 74) dX3_saysLast_74 rfl rfl ?_
                  refine m_geta C 46 58 (pc := 75) dX3_saysLast_75 (by decide) (fun _ => rfl) q1239 rfl ?_
                  refine g_iload_n C (pc := 78) dX3_saysLast_78 rfl ?_
                  refine m_zald C (pc := 79) (v := nb ((S.2.1 58) j)) dX3_saysLast_79 (by decide) rfl (vp_in_nI (by omega) (by decide)) (congrArg nb (gix (S.2.1 58) (by omega))) ?_
                  refine g_if_eq C (pc := 80) (tgt := 87) dX3_saysLast_80 (by decide) (fun c_80 => ?_) (fun c_80 => ?_)
                  · skip
                    have c_80 := nb_0.mp c_80
                    refine g_iconst C (pc := 87) (v := 0) dX3_saysLast_87 (by decide) ?_
                    refine g_istore_n C (pc := 88) (L' := [some (.ref 20), some (.int h0), some (.int 0), some (.int (nI j))]) dX3_saysLast_88 (by decide) rfl rfl ?_
                    refine g_iinc C (pc := 89) (v := nI (j + 1)) (L' := [some (.ref 20), some (.int h0), some (.int 0), some (.int (nI (j + 1)))]) dX3_saysLast_89 rfl (nI_inc _) (by decide) rfl rfl ?_
                    refine g_goto C (pc := 92) (tgt := 4) dX3_saysLast_92 (by decide) ?_
                    refine G.mask [true, true, true, true] rfl ?_
                    exact ih4 (j + 1) 0 (by omega) (by simp only [sayU]; first | (rw [if_pos ⟨c_19, c_32, c_45, c_58, c_71⟩]; first | (rw [if_pos c_80]; done) | (rw [if_neg c_80]; done)) | (rw [if_neg (by grind)]; exact hx)) (by omega)
                  · skip
                    have c_80 := nb_n0.mp c_80
                    refine g_iconst C (pc := 83) (v := 1) dX3_saysLast_83 (by decide) ?_
                    refine g_goto C (pc := 84) (tgt := 88) dX3_saysLast_84 (by decide) ?_
                    refine g_istore_n C (pc := 88) (L' := [some (.ref 20), some (.int h0), some (.int 1), some (.int (nI j))]) dX3_saysLast_88 (by decide) rfl rfl ?_
                    refine g_iinc C (pc := 89) (v := nI (j + 1)) (L' := [some (.ref 20), some (.int h0), some (.int 1), some (.int (nI (j + 1)))]) dX3_saysLast_89 rfl (nI_inc _) (by decide) rfl rfl ?_
                    refine g_goto C (pc := 92) (tgt := 4) dX3_saysLast_92 (by decide) ?_
                    refine G.mask [true, true, true, true] rfl ?_
                    exact ih4 (j + 1) 1 (by omega) (by simp only [sayU]; first | (rw [if_pos ⟨c_19, c_32, c_45, c_58, c_71⟩]; first | (rw [if_pos c_80]; done) | (rw [if_neg c_80]; done)) | (rw [if_neg (by grind)]; exact hx)) (by omega)
  refine G.mask [true, true, true, true] rfl ?_
  exact loop_4 _ 0 (-1) (Nat.zero_le _) (rfl) (Nat.lt_succ_self _)
theorem ds_X3_saysLast : yX3_saysLast.cls ≠ "java/lang/invoke/MethodHandle" ∧ yX3_saysLast.cls ≠ "java/lang/invoke/VarHandle" ∧ (parseMethodDescriptor yX3_saysLast.desc).map (fun d => d.parameters.length) = some 1 := by decide +kernel
set_option maxHeartbeats 4000000 in
set_option maxRecDepth 100000 in
theorem c_X3_isDead (l : Launch) (D : gD) (B : Nat × Nat) (K : KS) (S : MS) (h : gHp) (n : Nat) (h0 : Int32) (hh : vp_in h0 12) : Con l yX3_isDead (ws_ yX3_isDead cX3_isDead 2 (some .boolean)) ({ frames := 0, cells := 0, slots := 0, locals := 0 }) D B [.ref 20, .int h0] (wd K S h) n (gdt (some (.int (b2i (decide (¬ nb ((S.2.1 60) h0.toNatClampNeg) = 0))))) (wd K (S) h) n) 0 0 := by
  refine Con.begin [some (.ref 20), some (.int h0)] rfl rfl (Nat.le_of_ble_eq_true rfl) rfl rfl (fun X C R => ?_)
  refine g_aload_n C (pc := 0) dX3_isDead_0 rfl rfl ?_
  refine m_geta C 63 60 (pc := 1) dX3_isDead_1 (by decide) (fun _ => rfl) q1256 rfl ?_
  refine g_iload_n C (pc := 4) dX3_isDead_4 rfl ?_
  refine m_zald C (pc := 5) (v := nb ((S.2.1 60) ((h0).toNatClampNeg))) dX3_isDead_5 (by decide) rfl hh rfl ?_
  exact g_zretD C (b2i_nb _) R dX3_isDead_6 (Nat.le_refl _) (Nat.le_refl _) (by rw [← nb_b2i, nb_nb]) rfl rfl
theorem ds_X3_isDead : yX3_isDead.cls ≠ "java/lang/invoke/MethodHandle" ∧ yX3_isDead.cls ≠ "java/lang/invoke/VarHandle" ∧ (parseMethodDescriptor yX3_isDead.desc).map (fun d => d.parameters.length) = some 1 := by decide +kernel
abbrev AnyC (l : Launch) (D : gD) (B : Nat × Nat) (m : Nat) : Prop := ∀ (K : KS) (S : MS) (h : gHp) (n : Nat) (a : Nat) (e : Int32) (a2 : Nat) (f2 e2 : Int32) (b : Bool), MOK S → TXT S → a ≤ (mN S 54) → P S m 0 false 0 0 a e = some (a2, f2, e2, b) → Con l yX3_any (ws_ yX3_any cX3_any 3 (some .boolean)) (prm m) D B [.ref 20] (wd K (pS S a (-1) e) h) n (gdt (some (.int (b2i b))) (wd K (pS S a2 f2 e2) h) n) 0 0
abbrev AllC (l : Launch) (D : gD) (B : Nat × Nat) (m : Nat) : Prop := ∀ (K : KS) (S : MS) (h : gHp) (n : Nat) (a : Nat) (e : Int32) (a2 : Nat) (f2 e2 : Int32) (b : Bool), MOK S → TXT S → a ≤ (mN S 54) → P S m 1 false 0 0 a e = some (a2, f2, e2, b) → Con l yX3_all (ws_ yX3_all cX3_all 3 (some .boolean)) (prm m) D B [.ref 20] (wd K (pS S a (-1) e) h) n (gdt (some (.int (b2i b))) (wd K (pS S a2 f2 e2) h) n) 0 0
abbrev UnitC (l : Launch) (D : gD) (B : Nat × Nat) (m : Nat) : Prop := ∀ (K : KS) (S : MS) (h : gHp) (n : Nat) (a : Nat) (e : Int32) (a2 : Nat) (f2 e2 : Int32) (b : Bool), MOK S → TXT S → a ≤ (mN S 54) → P S m 2 false 0 0 a e = some (a2, f2, e2, b) → Con l yX3_unit (ws_ yX3_unit cX3_unit 4 (some .boolean)) (prm m) D B [.ref 20] (wd K (pS S a (-1) e) h) n (gdt (some (.int (b2i b))) (wd K (pS S a2 f2 e2) h) n) 0 0
abbrev PC (l : Launch) (D : gD) (B : Nat × Nat) (m : Nat) : Prop := AnyC l D B m ∧ AllC l D B m ∧ UnitC l D B m
theorem orb1 {x : Int32} {v y : Bool} (hx : x = b2i v) (c : ¬ x = 0) : 1 = b2i (v || y) := by rw [hx] at c; rw [b2i_n0.mp c]; rfl
theorem orb2 {v y : Bool} (c : y = true) : 1 = b2i (v || y) := by rw [c, Bool.or_true]; rfl
theorem orb3 {x : Int32} {v y : Bool} (hx : x = b2i v) (c : x = 0) (c2 : ¬ y = true) : 0 = b2i (v || y) := by rw [hx] at c; rw [Bool.not_eq_true] at c2; rw [c2, Bool.or_false]; exact c.symm
theorem anb1 {x : Int32} {v y : Bool} (hx : x = b2i v) (c : x = 0) : 0 = b2i (v && y) := by rw [hx] at c; have c := b2i_0.mp c; rw [Bool.not_eq_true] at c; rw [c]; rfl
theorem anb2 {v y : Bool} (c : ¬ y = true) : 0 = b2i (v && y) := by rw [Bool.not_eq_true] at c; rw [c, Bool.and_false]; rfl
theorem anb3 {x : Int32} {v y : Bool} (hx : x = b2i v) (c : ¬ x = 0) (c2 : y = true) : 1 = b2i (v && y) := by rw [hx] at c; rw [b2i_n0.mp c, c2]; rfl
theorem b2_t {p : Prop} [Decidable p] (h : p) : 1 = b2i (decide p) := by rw [decide_eq_true h]; rfl
theorem b2_f {p : Prop} [Decidable p] (h : ¬ p) : 0 = b2i (decide p) := by rw [decide_eq_false h]; rfl
theorem P_0 (S : MS) (n : Nat) (b : Bool) (w c : Int32) (a : Nat) (e : Int32) : P S (n + 1) 0 b w c a e = bindP (P S n 1 false 0 0 a e) (fun a e b2 => P S n 3 b2 0 0 a e) (fun b2 => b2) := rfl
theorem P_1 (S : MS) (n : Nat) (b : Bool) (w c : Int32) (a : Nat) (e : Int32) : P S (n + 1) 1 b w c a e = bindP (P S n 2 false 0 0 a e) (fun a e b2 => P S n 4 b2 0 0 a e) (fun b2 => b2) := rfl
theorem P_2 (S : MS) (n : Nat) (b : Bool) (w c : Int32) (a : Nat) (e : Int32) : P S (n + 1) 2 b w c a e = unitF S (P S n) a e := rfl
theorem P_3 (S : MS) (n : Nat) (b : Bool) (w c : Int32) (a : Nat) (e : Int32) : P S (n + 1) 3 b w c a e = if lookV S a = 124 then bindP (P S n 1 false 0 0 (skA S a + 1) e) (fun a e b2 => P S n 3 (b || b2) 0 0 a e) (fun b2 => b || b2) else some (skA S a, -1, e, b) := rfl
theorem P_4 (S : MS) (n : Nat) (b : Bool) (w c : Int32) (a : Nat) (e : Int32) : P S (n + 1) 4 b w c a e = if lookV S a = 38 then bindP (P S n 2 false 0 0 (skA S a + 1) e) (fun a e b2 => P S n 4 (b && b2) 0 0 a e) (fun b2 => b && b2) else some (skA S a, -1, e, b) := rfl
theorem P_5 (S : MS) (n : Nat) (b : Bool) (w c : Int32) (a : Nat) (e : Int32) : P S (n + 1) 5 b w c a e = if lookV S a = 44 then bindP (P S n 0 false 0 0 (skA S a + 1) e) (fun a e b2 => P S n 5 false w (c + b2i b2) a e) (fun _ => false) else if lookV S a = 125 then some (skA S a + 1, -1, e - 1, decide (¬ c < w)) else some (skA S a, nI (skA S a), e, false) := rfl
theorem P_pos {S : MS} {m mode : Nat} {b : Bool} {w c : Int32} {a : Nat} {e : Int32} {q : PR} (h : P S m mode b w c a e = some q) : ∃ k, m = k + 1 := by
  cases m with
  | zero => cases h
  | succ k => exact ⟨k, rfl⟩
theorem PR_i {x1 y1 : Nat} {x2 x3 y2 y3 : Int32} {x4 y4 : Bool} (h : (x1, x2, x3, x4) = ((y1, y2, y3, y4) : PR)) : x1 = y1 ∧ x2 = y2 ∧ x3 = y3 ∧ x4 = y4 := by cases h; exact ⟨rfl, rfl, rfl, rfl⟩
theorem ds_X3_any : yX3_any.cls ≠ "java/lang/invoke/MethodHandle" ∧ yX3_any.cls ≠ "java/lang/invoke/VarHandle" ∧ (parseMethodDescriptor yX3_any.desc).map (fun d => d.parameters.length) = some 0 := by decide +kernel
theorem ds_X3_all : yX3_all.cls ≠ "java/lang/invoke/MethodHandle" ∧ yX3_all.cls ≠ "java/lang/invoke/VarHandle" ∧ (parseMethodDescriptor yX3_all.desc).map (fun d => d.parameters.length) = some 0 := by decide +kernel
theorem ds_X3_unit : yX3_unit.cls ≠ "java/lang/invoke/MethodHandle" ∧ yX3_unit.cls ≠ "java/lang/invoke/VarHandle" ∧ (parseMethodDescriptor yX3_unit.desc).map (fun d => d.parameters.length) = some 0 := by decide +kernel
set_option maxHeartbeats 4000000 in
set_option maxRecDepth 100000 in
theorem s_X3_any (l : Launch) (D : gD) (B : Nat × Nat) (K : KS) (S : MS) (h : gHp) (n : Nat) (m : Nat) (H : ∀ j, j < m → PC l D B j) (a : Nat) (e : Int32) (a2 : Nat) (f2 e2 : Int32) (b : Bool)  (hM : MOK S) (hT : TXT S) (ha : a ≤ (mN S 54)) (hP : P S m 0 false 0 0 a e = some (a2, f2, e2, b)) : Con l yX3_any (ws_ yX3_any cX3_any 3 (some .boolean)) (prm m) D B [.ref 20] (wd K (pS S a (-1) e) h) n (gdt (some (.int (b2i b))) (wd K (pS S a2 f2 e2) h) n) 0 0 := by
  have hE := hT.e160
  obtain ⟨N, t21, tty, tN, t32⟩ := hT.tx
  have hska := sk_le ha
  obtain ⟨m1, hm1⟩ := P_pos hP
  have H1 := H m1 (by omega)
  rw [hm1, P_0] at hP
  obtain ⟨⟨y1, y2, y3, y4⟩, hy1, hy2⟩ := bindP_some hP
  have hy3 := P_le _ _ _ _ _ _ _ _ hy1 ha
  refine Con.begin [some (.ref 20), none, none] rfl rfl (Nat.le_of_ble_eq_true rfl) rfl rfl (fun X C R => ?_)
  refine g_aload_n C (pc := 0) dX3_any_0 rfl rfl ?_
  refine g_callVD C (pc := 1) [] [] dX3_any_1 (H1.2.1 K S h n a e y1 y2 y3 y4  hM hT ha hy1) (lw_V q1644 q1646 qs55 q87 q1647) (wd_20 _ _ _) rfl rfl ds_X3_all ⟨rfl, rfl⟩ ⟨by simp only [prm]; omega, by simp only [prm]; omega⟩ rfl rfl ⟨Nat.le_of_ble_eq_true rfl, Nat.le_of_ble_eq_true rfl⟩ (Nat.le_of_ble_eq_true rfl) rfl ?_
  refine g_istore_n C (pc := 4) (L' := [some (.ref 20), some (.int (b2i y4)), none]) dX3_any_4 (by decide) rfl rfl ?_
  have loop_5 : ∀ (d5 : Nat) (j : Nat) (p : Nat) (f1 : Int32) (e1 : Int32) (x : Int32) (v : Bool), (j ≤ m1) → (p ≤ (mN S 54)) → (x = b2i v) → ((f1 = -1 ∧ P S j 3 v 0 0 p e1 = some (a2, f2, e2, b)) ∨ (¬ f1 = -1 ∧ (a2, f2, e2, b) = ((p, f1, e1, v) : PR))) → j < d5 → G X D B (wd K (pS S p f1 e1) h) n 0 0 [some (.ref 20), some (.int x), none] 5 [] := by
    intro d5
    induction d5 with
    | zero =>
      intro j p f1 e1 x v hj hp hx hR hm5
      exact absurd hm5 (Nat.not_lt_zero _)
    | succ d5 ih5 =>
      intro j p f1 e1 x v hj hp hx hR hm5
      refine g_aload_n C (pc := 5) dX3_any_5 rfl rfl ?_
      refine m_geti C 56 (pc := 6) (v := f1) dX3_any_6 rfl q1249 rfl rfl ?_
      refine g_iconst C (pc := 9) (v := (-1)) dX3_any_9 (by decide) ?_
      refine g_icmp_ne C (pc := 10) (tgt := 54) dX3_any_10 (by decide) (fun c_10 => ?_) (fun c_10 => ?_)
      · skip
        have c_10 : ¬ ((f1) : Int32) = -1 := c_10
        have hfin := PR_i (by rcases hR with ⟨q, _⟩ | ⟨_, q⟩; exact absurd q c_10; exact q.symm)
        refine g_iload_n C (pc := 54) dX3_any_54 rfl ?_
        exact g_zretD C (b2i_nb _) R dX3_any_55 (Nat.le_refl _) (Nat.le_refl _) (by rw [hx, hfin.2.2.2]) (congrArg (fun z => wd K z h) (by rw [hfin.1, hfin.2.1, hfin.2.2.1])) rfl
      · skip
        have c_10 : ((f1) : Int32) = -1 := c_10
        have hR1 := (by rcases hR with ⟨_, q⟩ | ⟨q, _⟩; exact q; exact absurd c_10 q : P S j 3 v 0 0 p e1 = some (a2, f2, e2, b))
        obtain ⟨j2, hj2⟩ := P_pos hR1
        rw [hj2, P_3] at hR1
        have hsp := sk_le hp
        refine g_aload_n C (pc := 13) dX3_any_13 rfl rfl ?_
        refine g_callVD C (pc := 14) [] [] dX3_any_14 (c_X3_look l D B K S h n p f1 e1  hT (by omega)) (lw_V q1652 q1654 qs57 q87 q1655) (wd_20 _ _ _) rfl rfl ds_X3_look ⟨rfl, rfl⟩ ⟨by simp only [prm]; omega, by simp only [prm]; omega⟩ rfl rfl ⟨Nat.le_of_ble_eq_true rfl, Nat.le_of_ble_eq_true rfl⟩ (Nat.le_of_ble_eq_true rfl) rfl ?_
        refine g_bipush C (pc := 17) (v := 124) dX3_any_17 (by decide) ?_
        refine g_icmp_ne C (pc := 19) (tgt := 54) dX3_any_19 (by decide) (fun c_19 => ?_) (fun c_19 => ?_)
        · skip
          have c_19 : ¬ ((lookV S p) : Int32) = 124 := c_19
          rw [if_neg c_19] at hR1
          have hfin := PR_i (Option.some.inj hR1)
          rw [← c_10] at hfin
          refine g_iload_n C (pc := 54) dX3_any_54 rfl ?_
          exact g_zretD C (b2i_nb _) R dX3_any_55 (Nat.le_refl _) (Nat.le_refl _) (by rw [hx, hfin.2.2.2]) (congrArg (fun z => wd K z h) (by rw [hfin.1, hfin.2.1, hfin.2.2.1])) rfl
        · skip
          have c_19 : ((lookV S p) : Int32) = 124 := c_19
          rw [if_pos c_19] at hR1
          have hsl := look_lt c_19 (by decide)
          obtain ⟨⟨z1, z2, z3, z4⟩, hz1, hz2⟩ := bindP_some hR1
          have hz3 := P_le _ _ _ _ _ _ _ _ hz1 (by omega)
          refine g_aload_n C (pc := 22) dX3_any_22 rfl rfl ?_
          refine g_dup C (pc := 23) dX3_any_23 rfl ?_
          refine m_geti C 55 (pc := 24) (v := nI (skA S p)) dX3_any_24 rfl q1248 rfl rfl ?_
          refine g_iconst C (pc := 27) (v := 1) dX3_any_27 (by decide) ?_
          refine g_iadd C (pc := 28) dX3_any_28 ?_
          refine G.topc (nI_1 _) ?_
          refine m_puti C 55 (pc := 29) dX3_any_29 rfl q1248 rfl rfl rfl ?_
          rw [pS_at]
          refine g_aload_n C (pc := 32) dX3_any_32 rfl rfl ?_
          rw [c_10]
          refine g_callVD C (pc := 33) [] [] dX3_any_33 ((H j2 (by omega)).2.1 K S h n (skA S p + 1) e1 z1 z2 z3 z4  hM hT (by omega) hz1) (lw_V q1644 q1646 qs55 q87 q1647) (wd_20 _ _ _) rfl rfl ds_X3_all ⟨rfl, rfl⟩ ⟨by simp only [prm]; omega, by simp only [prm]; omega⟩ rfl rfl ⟨Nat.le_of_ble_eq_true rfl, Nat.le_of_ble_eq_true rfl⟩ (Nat.le_of_ble_eq_true rfl) rfl ?_
          refine g_istore_n C (pc := 36) (L' := [some (.ref 20), some (.int x), some (.int (b2i z4))]) dX3_any_36 (by decide) rfl rfl ?_
          refine g_iload_n C (pc := 37) dX3_any_37 rfl ?_
          refine g_if_ne C (pc := 38) (tgt := 45) dX3_any_38 (by decide) (fun c_38 => ?_) (fun c_38 => ?_)
          · skip
            refine g_iconst C (pc := 45) (v := 1) dX3_any_45 (by decide) ?_
            refine g_goto C (pc := 46) (tgt := 50) dX3_any_46 (by decide) ?_
            refine g_istore_n C (pc := 50) (L' := [some (.ref 20), some (.int 1), some (.int (b2i z4))]) dX3_any_50 (by decide) rfl rfl ?_
            refine g_goto C (pc := 51) (tgt := 5) dX3_any_51 (by decide) ?_
            refine G.mask [true, true, false] rfl ?_
            exact ih5 j2 z1 z2 z3 1 (v || z4) (by omega) (hz3) (by first | exact orb1 hx c_38 | exact orb2 c_42 | exact orb3 hx c_38 c_42) (hz2) (by omega)
          · skip
            refine g_iload_n C (pc := 41) dX3_any_41 rfl ?_
            refine g_if_eq C (pc := 42) (tgt := 49) dX3_any_42 (by decide) (fun c_42 => ?_) (fun c_42 => ?_)
            · skip
              have c_42 : ¬ z4 = true := b2i_0.mp c_42
              refine g_iconst C (pc := 49) (v := 0) dX3_any_49 (by decide) ?_
              refine g_istore_n C (pc := 50) (L' := [some (.ref 20), some (.int 0), some (.int (b2i z4))]) dX3_any_50 (by decide) rfl rfl ?_
              refine g_goto C (pc := 51) (tgt := 5) dX3_any_51 (by decide) ?_
              refine G.mask [true, true, false] rfl ?_
              exact ih5 j2 z1 z2 z3 0 (v || z4) (by omega) (hz3) (by first | exact orb1 hx c_38 | exact orb2 c_42 | exact orb3 hx c_38 c_42) (hz2) (by omega)
            · skip
              have c_42 : z4 = true := b2i_n0.mp c_42
              refine g_iconst C (pc := 45) (v := 1) dX3_any_45 (by decide) ?_
              refine g_goto C (pc := 46) (tgt := 50) dX3_any_46 (by decide) ?_
              refine g_istore_n C (pc := 50) (L' := [some (.ref 20), some (.int 1), some (.int (b2i z4))]) dX3_any_50 (by decide) rfl rfl ?_
              refine g_goto C (pc := 51) (tgt := 5) dX3_any_51 (by decide) ?_
              refine G.mask [true, true, false] rfl ?_
              exact ih5 j2 z1 z2 z3 1 (v || z4) (by omega) (hz3) (by first | exact orb1 hx c_38 | exact orb2 c_42 | exact orb3 hx c_38 c_42) (hz2) (by omega)
  refine G.mask [true, true, false] rfl ?_
  exact loop_5 _ m1 y1 y2 y3 (b2i y4) y4 (Nat.le_refl _) (hy3) (rfl) (hy2) (Nat.lt_succ_self _)
set_option maxHeartbeats 4000000 in
set_option maxRecDepth 100000 in
theorem s_X3_all (l : Launch) (D : gD) (B : Nat × Nat) (K : KS) (S : MS) (h : gHp) (n : Nat) (m : Nat) (H : ∀ j, j < m → PC l D B j) (a : Nat) (e : Int32) (a2 : Nat) (f2 e2 : Int32) (b : Bool)  (hM : MOK S) (hT : TXT S) (ha : a ≤ (mN S 54)) (hP : P S m 1 false 0 0 a e = some (a2, f2, e2, b)) : Con l yX3_all (ws_ yX3_all cX3_all 3 (some .boolean)) (prm m) D B [.ref 20] (wd K (pS S a (-1) e) h) n (gdt (some (.int (b2i b))) (wd K (pS S a2 f2 e2) h) n) 0 0 := by
  have hE := hT.e160
  obtain ⟨N, t21, tty, tN, t32⟩ := hT.tx
  have hska := sk_le ha
  obtain ⟨m1, hm1⟩ := P_pos hP
  have H1 := H m1 (by omega)
  rw [hm1, P_1] at hP
  obtain ⟨⟨y1, y2, y3, y4⟩, hy1, hy2⟩ := bindP_some hP
  have hy3 := P_le _ _ _ _ _ _ _ _ hy1 ha
  refine Con.begin [some (.ref 20), none, none] rfl rfl (Nat.le_of_ble_eq_true rfl) rfl rfl (fun X C R => ?_)
  refine g_aload_n C (pc := 0) dX3_all_0 rfl rfl ?_
  refine g_callVD C (pc := 1) [] [] dX3_all_1 (H1.2.2 K S h n a e y1 y2 y3 y4  hM hT ha hy1) (lw_V q1648 q1650 qs56 q87 q1651) (wd_20 _ _ _) rfl rfl ds_X3_unit ⟨rfl, rfl⟩ ⟨by simp only [prm]; omega, by simp only [prm]; omega⟩ rfl rfl ⟨Nat.le_of_ble_eq_true rfl, Nat.le_of_ble_eq_true rfl⟩ (Nat.le_of_ble_eq_true rfl) rfl ?_
  refine g_istore_n C (pc := 4) (L' := [some (.ref 20), some (.int (b2i y4)), none]) dX3_all_4 (by decide) rfl rfl ?_
  have loop_5 : ∀ (d5 : Nat) (j : Nat) (p : Nat) (f1 : Int32) (e1 : Int32) (x : Int32) (v : Bool), (j ≤ m1) → (p ≤ (mN S 54)) → (x = b2i v) → ((f1 = -1 ∧ P S j 4 v 0 0 p e1 = some (a2, f2, e2, b)) ∨ (¬ f1 = -1 ∧ (a2, f2, e2, b) = ((p, f1, e1, v) : PR))) → j < d5 → G X D B (wd K (pS S p f1 e1) h) n 0 0 [some (.ref 20), some (.int x), none] 5 [] := by
    intro d5
    induction d5 with
    | zero =>
      intro j p f1 e1 x v hj hp hx hR hm5
      exact absurd hm5 (Nat.not_lt_zero _)
    | succ d5 ih5 =>
      intro j p f1 e1 x v hj hp hx hR hm5
      refine g_aload_n C (pc := 5) dX3_all_5 rfl rfl ?_
      refine m_geti C 56 (pc := 6) (v := f1) dX3_all_6 rfl q1249 rfl rfl ?_
      refine g_iconst C (pc := 9) (v := (-1)) dX3_all_9 (by decide) ?_
      refine g_icmp_ne C (pc := 10) (tgt := 54) dX3_all_10 (by decide) (fun c_10 => ?_) (fun c_10 => ?_)
      · skip
        have c_10 : ¬ ((f1) : Int32) = -1 := c_10
        have hfin := PR_i (by rcases hR with ⟨q, _⟩ | ⟨_, q⟩; exact absurd q c_10; exact q.symm)
        refine g_iload_n C (pc := 54) dX3_all_54 rfl ?_
        exact g_zretD C (b2i_nb _) R dX3_all_55 (Nat.le_refl _) (Nat.le_refl _) (by rw [hx, hfin.2.2.2]) (congrArg (fun z => wd K z h) (by rw [hfin.1, hfin.2.1, hfin.2.2.1])) rfl
      · skip
        have c_10 : ((f1) : Int32) = -1 := c_10
        have hR1 := (by rcases hR with ⟨_, q⟩ | ⟨q, _⟩; exact q; exact absurd c_10 q : P S j 4 v 0 0 p e1 = some (a2, f2, e2, b))
        obtain ⟨j2, hj2⟩ := P_pos hR1
        rw [hj2, P_4] at hR1
        have hsp := sk_le hp
        refine g_aload_n C (pc := 13) dX3_all_13 rfl rfl ?_
        refine g_callVD C (pc := 14) [] [] dX3_all_14 (c_X3_look l D B K S h n p f1 e1  hT (by omega)) (lw_V q1652 q1654 qs57 q87 q1655) (wd_20 _ _ _) rfl rfl ds_X3_look ⟨rfl, rfl⟩ ⟨by simp only [prm]; omega, by simp only [prm]; omega⟩ rfl rfl ⟨Nat.le_of_ble_eq_true rfl, Nat.le_of_ble_eq_true rfl⟩ (Nat.le_of_ble_eq_true rfl) rfl ?_
        refine g_bipush C (pc := 17) (v := 38) dX3_all_17 (by decide) ?_
        refine g_icmp_ne C (pc := 19) (tgt := 54) dX3_all_19 (by decide) (fun c_19 => ?_) (fun c_19 => ?_)
        · skip
          have c_19 : ¬ ((lookV S p) : Int32) = 38 := c_19
          rw [if_neg c_19] at hR1
          have hfin := PR_i (Option.some.inj hR1)
          rw [← c_10] at hfin
          refine g_iload_n C (pc := 54) dX3_all_54 rfl ?_
          exact g_zretD C (b2i_nb _) R dX3_all_55 (Nat.le_refl _) (Nat.le_refl _) (by rw [hx, hfin.2.2.2]) (congrArg (fun z => wd K z h) (by rw [hfin.1, hfin.2.1, hfin.2.2.1])) rfl
        · skip
          have c_19 : ((lookV S p) : Int32) = 38 := c_19
          rw [if_pos c_19] at hR1
          have hsl := look_lt c_19 (by decide)
          obtain ⟨⟨z1, z2, z3, z4⟩, hz1, hz2⟩ := bindP_some hR1
          have hz3 := P_le _ _ _ _ _ _ _ _ hz1 (by omega)
          refine g_aload_n C (pc := 22) dX3_all_22 rfl rfl ?_
          refine g_dup C (pc := 23) dX3_all_23 rfl ?_
          refine m_geti C 55 (pc := 24) (v := nI (skA S p)) dX3_all_24 rfl q1248 rfl rfl ?_
          refine g_iconst C (pc := 27) (v := 1) dX3_all_27 (by decide) ?_
          refine g_iadd C (pc := 28) dX3_all_28 ?_
          refine G.topc (nI_1 _) ?_
          refine m_puti C 55 (pc := 29) dX3_all_29 rfl q1248 rfl rfl rfl ?_
          rw [pS_at]
          refine g_aload_n C (pc := 32) dX3_all_32 rfl rfl ?_
          rw [c_10]
          refine g_callVD C (pc := 33) [] [] dX3_all_33 ((H j2 (by omega)).2.2 K S h n (skA S p + 1) e1 z1 z2 z3 z4  hM hT (by omega) hz1) (lw_V q1648 q1650 qs56 q87 q1651) (wd_20 _ _ _) rfl rfl ds_X3_unit ⟨rfl, rfl⟩ ⟨by simp only [prm]; omega, by simp only [prm]; omega⟩ rfl rfl ⟨Nat.le_of_ble_eq_true rfl, Nat.le_of_ble_eq_true rfl⟩ (Nat.le_of_ble_eq_true rfl) rfl ?_
          refine g_istore_n C (pc := 36) (L' := [some (.ref 20), some (.int x), some (.int (b2i z4))]) dX3_all_36 (by decide) rfl rfl ?_
          refine g_iload_n C (pc := 37) dX3_all_37 rfl ?_
          refine g_if_eq C (pc := 38) (tgt := 49) dX3_all_38 (by decide) (fun c_38 => ?_) (fun c_38 => ?_)
          · skip
            refine g_iconst C (pc := 49) (v := 0) dX3_all_49 (by decide) ?_
            refine g_istore_n C (pc := 50) (L' := [some (.ref 20), some (.int 0), some (.int (b2i z4))]) dX3_all_50 (by decide) rfl rfl ?_
            refine g_goto C (pc := 51) (tgt := 5) dX3_all_51 (by decide) ?_
            refine G.mask [true, true, false] rfl ?_
            exact ih5 j2 z1 z2 z3 0 (v && z4) (by omega) (hz3) (by first | exact anb1 hx c_38 | exact anb2 c_42 | exact anb3 hx c_38 c_42) (hz2) (by omega)
          · skip
            refine g_iload_n C (pc := 41) dX3_all_41 rfl ?_
            refine g_if_eq C (pc := 42) (tgt := 49) dX3_all_42 (by decide) (fun c_42 => ?_) (fun c_42 => ?_)
            · skip
              have c_42 : ¬ z4 = true := b2i_0.mp c_42
              refine g_iconst C (pc := 49) (v := 0) dX3_all_49 (by decide) ?_
              refine g_istore_n C (pc := 50) (L' := [some (.ref 20), some (.int 0), some (.int (b2i z4))]) dX3_all_50 (by decide) rfl rfl ?_
              refine g_goto C (pc := 51) (tgt := 5) dX3_all_51 (by decide) ?_
              refine G.mask [true, true, false] rfl ?_
              exact ih5 j2 z1 z2 z3 0 (v && z4) (by omega) (hz3) (by first | exact anb1 hx c_38 | exact anb2 c_42 | exact anb3 hx c_38 c_42) (hz2) (by omega)
            · skip
              have c_42 : z4 = true := b2i_n0.mp c_42
              refine g_iconst C (pc := 45) (v := 1) dX3_all_45 (by decide) ?_
              refine g_goto C (pc := 46) (tgt := 50) dX3_all_46 (by decide) ?_
              refine g_istore_n C (pc := 50) (L' := [some (.ref 20), some (.int 1), some (.int (b2i z4))]) dX3_all_50 (by decide) rfl rfl ?_
              refine g_goto C (pc := 51) (tgt := 5) dX3_all_51 (by decide) ?_
              refine G.mask [true, true, false] rfl ?_
              exact ih5 j2 z1 z2 z3 1 (v && z4) (by omega) (hz3) (by first | exact anb1 hx c_38 | exact anb2 c_42 | exact anb3 hx c_38 c_42) (hz2) (by omega)
  refine G.mask [true, true, false] rfl ?_
  exact loop_5 _ m1 y1 y2 y3 (b2i y4) y4 (Nat.le_refl _) (hy3) (rfl) (hy2) (Nat.lt_succ_self _)
set_option maxHeartbeats 4000000 in
set_option maxRecDepth 100000 in
theorem s_X3_unit (l : Launch) (D : gD) (B : Nat × Nat) (K : KS) (S : MS) (h : gHp) (n : Nat) (m : Nat) (H : ∀ j, j < m → PC l D B j) (a : Nat) (e : Int32) (a2 : Nat) (f2 e2 : Int32) (b : Bool)  (hM : MOK S) (hT : TXT S) (ha : a ≤ (mN S 54)) (hP : P S m 2 false 0 0 a e = some (a2, f2, e2, b)) : Con l yX3_unit (ws_ yX3_unit cX3_unit 4 (some .boolean)) (prm m) D B [.ref 20] (wd K (pS S a (-1) e) h) n (gdt (some (.int (b2i b))) (wd K (pS S a2 f2 e2) h) n) 0 0 := by
  have hE := hT.e160
  obtain ⟨N, t21, tty, tN, t32⟩ := hT.tx
  have hska := sk_le ha
  obtain ⟨m1, hm1⟩ := P_pos hP
  have H1 := H m1 (by omega)
  rw [hm1, P_2] at hP
  unfold unitF at hP
  refine Con.begin [some (.ref 20), none, none, none] rfl rfl (Nat.le_of_ble_eq_true rfl) rfl rfl (fun X C R => ?_)
  refine g_aload_n C (pc := 0) dX3_unit_0 rfl rfl ?_
  refine g_callVD C (pc := 1) [] [] dX3_unit_1 (c_X3_look l D B K S h n a (-1) e  hT (by omega)) (lw_V q1652 q1654 qs57 q87 q1655) (wd_20 _ _ _) rfl rfl ds_X3_look ⟨rfl, rfl⟩ ⟨by simp only [prm]; omega, by simp only [prm]; omega⟩ rfl rfl ⟨Nat.le_of_ble_eq_true rfl, Nat.le_of_ble_eq_true rfl⟩ (Nat.le_of_ble_eq_true rfl) rfl ?_
  refine g_istore_n C (pc := 4) (L' := [some (.ref 20), some (.int (lookV S a)), none, none]) dX3_unit_4 (by decide) rfl rfl ?_
  refine g_iload_n C (pc := 5) dX3_unit_5 rfl ?_
  refine g_bipush C (pc := 6) (v := 33) dX3_unit_6 (by decide) ?_
  refine g_icmp_ne C (pc := 8) (tgt := 45) dX3_unit_8 (by decide) (fun c_8 => ?_) (fun c_8 => ?_)
  · skip
    have c_8 : ¬ ((lookV S a) : Int32) = 33 := c_8
    rw [if_neg c_8] at hP
    refine g_iload_n C (pc := 45) dX3_unit_45 rfl ?_
    refine g_bipush C (pc := 46) (v := 40) dX3_unit_46 (by decide) ?_
    refine g_icmp_ne C (pc := 48) (tgt := 88) dX3_unit_48 (by decide) (fun c_48 => ?_) (fun c_48 => ?_)
    · skip
      have c_48 : ¬ ((lookV S a) : Int32) = 40 := c_48
      rw [if_neg c_48] at hP
      have join_106 : (lookV S a = 104 ∨ lookV S a = 110 ∨ lookV S a = 100) → G X D B (wd K (pS S (skA S a) (-1) e) h) n 0 0 [some (.ref 20), some (.int (lookV S a)), none, none] 106 [] := by
        intro  hc
        rw [if_pos hc] at hP
        have hfin := PR_i (Option.some.inj hP)
        have hsl : skA S a < (mN S 54) := by rcases hc with z | z | z <;> exact look_lt z (by decide)
        refine g_aload_n C (pc := 106) dX3_unit_106 rfl rfl ?_
        refine g_dup C (pc := 107) dX3_unit_107 rfl ?_
        refine m_geti C 55 (pc := 108) (v := nI (skA S a)) dX3_unit_108 rfl q1248 rfl rfl ?_
        refine g_iconst C (pc := 111) (v := 1) dX3_unit_111 (by decide) ?_
        refine g_iadd C (pc := 112) dX3_unit_112 ?_
        refine G.topc (nI_1 _) ?_
        refine m_puti C 55 (pc := 113) dX3_unit_113 rfl q1248 rfl rfl rfl ?_
        rw [pS_at]
        refine g_aload_n C (pc := 116) dX3_unit_116 rfl rfl ?_
        refine g_bipush C (pc := 117) (v := 11) dX3_unit_117 (by decide) ?_
        refine g_callVD C (pc := 119) [.int 11] [] dX3_unit_119 (c_X3_number l D B K S h n ((skA S a) + 1) e 11 hT (by omega)) (lw_V q1668 q1670 qs61 q87 q1671) (wd_20 _ _ _) rfl rfl ds_X3_number ⟨rfl, rfl⟩ ⟨by simp only [prm]; omega, by simp only [prm]; omega⟩ rfl rfl ⟨Nat.le_of_ble_eq_true rfl, Nat.le_of_ble_eq_true rfl⟩ (Nat.le_of_ble_eq_true rfl) rfl ?_
        refine g_istore_n C (pc := 122) (L' := [some (.ref 20), some (.int (lookV S a)), some (.int ((numR S (skA S ((skA S a) + 1)) 11).2.2)), none]) dX3_unit_122 (by decide) rfl rfl ?_
        refine g_aload_n C (pc := 123) dX3_unit_123 rfl rfl ?_
        refine m_geti C 56 (pc := 124) (v := (numR S (skA S ((skA S a) + 1)) 11).2.1) dX3_unit_124 rfl q1249 rfl rfl ?_
        refine g_iconst C (pc := 127) (v := (-1)) dX3_unit_127 (by decide) ?_
        refine g_icmp_ne C (pc := 128) (tgt := 178) dX3_unit_128 (by decide) (fun c_128 => ?_) (fun c_128 => ?_)
        · skip
          have c_128 : ¬ (((numR S (skA S ((skA S a) + 1)) 11).2.1) : Int32) = -1 := c_128
          refine g_iconst C (pc := 178) (v := 0) dX3_unit_178 (by decide) ?_
          exact g_zretD C (b2i_nb _) R dX3_unit_179 (Nat.le_refl _) (Nat.le_refl _) (by rw [← hfin.2.2.2]; first | (rw [if_neg c_128]; rfl) | (rw [if_pos c_128]; unfold leafV; rw [if_neg hl9]; first | (rw [if_pos c_134]; first | exact b2_f (fun z => c_141 (nb_0.mp z.1)) | exact b2_f (fun z => z.2 c_149) | exact b2_t ⟨nb_0.mpr c_141, c_149⟩) | (rw [if_neg c_134]; first | (rw [if_pos c_163]; first | exact b2_t c_171 | exact b2_f c_171) | (rw [if_neg c_163]; first | exact b2_t c_171 | exact b2_f c_171)))) (congrArg (fun z => wd K z h) (by rw [← hfin.1, ← hfin.2.1, ← hfin.2.2.1])) rfl
        · skip
          have c_128 : (((numR S (skA S ((skA S a) + 1)) 11).2.1) : Int32) = -1 := c_128
          obtain ⟨q, hq, eq⟩ := numR_ok (S := S) (s := skA S (skA S a + 1)) (w := 11) (W := 11) rfl (by decide) (by have := sk_le (S := S) (a := skA S a + 1) (by omega); omega) c_128
          have hl9 : ¬ lookV S a = 119 := by rcases hc with z | z | z <;> rw [z] <;> decide
          refine g_iload_n C (pc := 131) dX3_unit_131 rfl ?_
          refine g_bipush C (pc := 132) (v := 100) dX3_unit_132 (by decide) ?_
          refine g_icmp_ne C (pc := 134) (tgt := 155) dX3_unit_134 (by decide) (fun c_134 => ?_) (fun c_134 => ?_)
          · skip
            have c_134 : ¬ ((lookV S a) : Int32) = 100 := c_134
            refine g_aload_n C (pc := 155) dX3_unit_155 rfl rfl ?_
            refine g_iload_n C (pc := 156) dX3_unit_156 rfl ?_
            refine g_callVD C (pc := 157) [.int ((numR S (skA S ((skA S a) + 1)) 11).2.2)] [] dX3_unit_157 (c_X3_saysLast l D B K (pS S ((numR S (skA S ((skA S a) + 1)) 11).1) ((numR S (skA S ((skA S a) + 1)) 11).2.1) e) h n ((numR S (skA S ((skA S a) + 1)) 11).2.2) (hM.pS _ _ _)) (lw_V q1680 q1682 qs64 q87 q1683) (wd_20 _ _ _) rfl rfl ds_X3_saysLast ⟨rfl, rfl⟩ ⟨by simp only [prm]; omega, by simp only [prm]; omega⟩ rfl rfl ⟨Nat.le_of_ble_eq_true rfl, Nat.le_of_ble_eq_true rfl⟩ (Nat.le_of_ble_eq_true rfl) rfl ?_
            refine g_iload_n C (pc := 160) dX3_unit_160 rfl ?_
            refine g_bipush C (pc := 161) (v := 104) dX3_unit_161 (by decide) ?_
            refine g_icmp_ne C (pc := 163) (tgt := 170) dX3_unit_163 (by decide) (fun c_163 => ?_) (fun c_163 => ?_)
            · skip
              have c_163 : ¬ ((lookV S a) : Int32) = 104 := c_163
              refine g_iconst C (pc := 170) (v := 0) dX3_unit_170 (by decide) ?_
              refine g_icmp_ne C (pc := 171) (tgt := 178) dX3_unit_171 (by decide) (fun c_171 => ?_) (fun c_171 => ?_)
              · skip
                have c_171 : ¬ ((saysS (pS S ((numR S (skA S ((skA S a) + 1)) 11).1) ((numR S (skA S ((skA S a) + 1)) 11).2.1) e) ((numR S (skA S ((skA S a) + 1)) 11).2.2)) : Int32) = 0 := c_171
                change ¬ saysS S _ = _ at c_171
                refine g_iconst C (pc := 178) (v := 0) dX3_unit_178 (by decide) ?_
                exact g_zretD C (b2i_nb _) R dX3_unit_179 (Nat.le_refl _) (Nat.le_refl _) (by rw [← hfin.2.2.2]; first | (rw [if_neg c_128]; rfl) | (rw [if_pos c_128]; unfold leafV; rw [if_neg hl9]; first | (rw [if_pos c_134]; first | exact b2_f (fun z => c_141 (nb_0.mp z.1)) | exact b2_f (fun z => z.2 c_149) | exact b2_t ⟨nb_0.mpr c_141, c_149⟩) | (rw [if_neg c_134]; first | (rw [if_pos c_163]; first | exact b2_t c_171 | exact b2_f c_171) | (rw [if_neg c_163]; first | exact b2_t c_171 | exact b2_f c_171)))) (congrArg (fun z => wd K z h) (by rw [← hfin.1, ← hfin.2.1, ← hfin.2.2.1])) rfl
              · skip
                have c_171 : ((saysS (pS S ((numR S (skA S ((skA S a) + 1)) 11).1) ((numR S (skA S ((skA S a) + 1)) 11).2.1) e) ((numR S (skA S ((skA S a) + 1)) 11).2.2)) : Int32) = 0 := c_171
                change saysS S _ = _ at c_171
                refine g_iconst C (pc := 174) (v := 1) dX3_unit_174 (by decide) ?_
                refine g_goto C (pc := 175) (tgt := 179) dX3_unit_175 (by decide) ?_
                exact g_zretD C (b2i_nb _) R dX3_unit_179 (Nat.le_refl _) (Nat.le_refl _) (by rw [← hfin.2.2.2]; first | (rw [if_neg c_128]; rfl) | (rw [if_pos c_128]; unfold leafV; rw [if_neg hl9]; first | (rw [if_pos c_134]; first | exact b2_f (fun z => c_141 (nb_0.mp z.1)) | exact b2_f (fun z => z.2 c_149) | exact b2_t ⟨nb_0.mpr c_141, c_149⟩) | (rw [if_neg c_134]; first | (rw [if_pos c_163]; first | exact b2_t c_171 | exact b2_f c_171) | (rw [if_neg c_163]; first | exact b2_t c_171 | exact b2_f c_171)))) (congrArg (fun z => wd K z h) (by rw [← hfin.1, ← hfin.2.1, ← hfin.2.2.1])) rfl
            · skip
              have c_163 : ((lookV S a) : Int32) = 104 := c_163
              refine g_iconst C (pc := 166) (v := 1) dX3_unit_166 (by decide) ?_
              refine g_goto C (pc := 167) (tgt := 171) dX3_unit_167 (by decide) ?_
              refine g_icmp_ne C (pc := 171) (tgt := 178) dX3_unit_171 (by decide) (fun c_171 => ?_) (fun c_171 => ?_)
              · skip
                have c_171 : ¬ ((saysS (pS S ((numR S (skA S ((skA S a) + 1)) 11).1) ((numR S (skA S ((skA S a) + 1)) 11).2.1) e) ((numR S (skA S ((skA S a) + 1)) 11).2.2)) : Int32) = 1 := c_171
                change ¬ saysS S _ = _ at c_171
                refine g_iconst C (pc := 178) (v := 0) dX3_unit_178 (by decide) ?_
                exact g_zretD C (b2i_nb _) R dX3_unit_179 (Nat.le_refl _) (Nat.le_refl _) (by rw [← hfin.2.2.2]; first | (rw [if_neg c_128]; rfl) | (rw [if_pos c_128]; unfold leafV; rw [if_neg hl9]; first | (rw [if_pos c_134]; first | exact b2_f (fun z => c_141 (nb_0.mp z.1)) | exact b2_f (fun z => z.2 c_149) | exact b2_t ⟨nb_0.mpr c_141, c_149⟩) | (rw [if_neg c_134]; first | (rw [if_pos c_163]; first | exact b2_t c_171 | exact b2_f c_171) | (rw [if_neg c_163]; first | exact b2_t c_171 | exact b2_f c_171)))) (congrArg (fun z => wd K z h) (by rw [← hfin.1, ← hfin.2.1, ← hfin.2.2.1])) rfl
              · skip
                have c_171 : ((saysS (pS S ((numR S (skA S ((skA S a) + 1)) 11).1) ((numR S (skA S ((skA S a) + 1)) 11).2.1) e) ((numR S (skA S ((skA S a) + 1)) 11).2.2)) : Int32) = 1 := c_171
                change saysS S _ = _ at c_171
                refine g_iconst C (pc := 174) (v := 1) dX3_unit_174 (by decide) ?_
                refine g_goto C (pc := 175) (tgt := 179) dX3_unit_175 (by decide) ?_
                exact g_zretD C (b2i_nb _) R dX3_unit_179 (Nat.le_refl _) (Nat.le_refl _) (by rw [← hfin.2.2.2]; first | (rw [if_neg c_128]; rfl) | (rw [if_pos c_128]; unfold leafV; rw [if_neg hl9]; first | (rw [if_pos c_134]; first | exact b2_f (fun z => c_141 (nb_0.mp z.1)) | exact b2_f (fun z => z.2 c_149) | exact b2_t ⟨nb_0.mpr c_141, c_149⟩) | (rw [if_neg c_134]; first | (rw [if_pos c_163]; first | exact b2_t c_171 | exact b2_f c_171) | (rw [if_neg c_163]; first | exact b2_t c_171 | exact b2_f c_171)))) (congrArg (fun z => wd K z h) (by rw [← hfin.1, ← hfin.2.1, ← hfin.2.2.1])) rfl
          · skip
            have c_134 : ((lookV S a) : Int32) = 100 := c_134
            refine g_aload_n C (pc := 137) dX3_unit_137 rfl rfl ?_
            refine m_getz C (pc := 138) (v := nb (S.1 62)) dX3_unit_138 q1255 rfl ?_
            refine g_if_ne C (pc := 141) (tgt := 178) dX3_unit_141 (by decide) (fun c_141 => ?_) (fun c_141 => ?_)
            · skip
              have c_141 := nb_n0.mp c_141
              refine g_iconst C (pc := 178) (v := 0) dX3_unit_178 (by decide) ?_
              exact g_zretD C (b2i_nb _) R dX3_unit_179 (Nat.le_refl _) (Nat.le_refl _) (by rw [← hfin.2.2.2]; first | (rw [if_neg c_128]; rfl) | (rw [if_pos c_128]; unfold leafV; rw [if_neg hl9]; first | (rw [if_pos c_134]; first | exact b2_f (fun z => c_141 (nb_0.mp z.1)) | exact b2_f (fun z => z.2 c_149) | exact b2_t ⟨nb_0.mpr c_141, c_149⟩) | (rw [if_neg c_134]; first | (rw [if_pos c_163]; first | exact b2_t c_171 | exact b2_f c_171) | (rw [if_neg c_163]; first | exact b2_t c_171 | exact b2_f c_171)))) (congrArg (fun z => wd K z h) (by rw [← hfin.1, ← hfin.2.1, ← hfin.2.2.1])) rfl
            · skip
              have c_141 := nb_0.mp c_141
              refine g_aload_n C (pc := 144) dX3_unit_144 rfl rfl ?_
              refine g_iload_n C (pc := 145) dX3_unit_145 rfl ?_
              refine g_callVD C (pc := 146) [.int ((numR S (skA S ((skA S a) + 1)) 11).2.2)] [] dX3_unit_146 (c_X3_isDead l D B K (pS S ((numR S (skA S ((skA S a) + 1)) 11).1) ((numR S (skA S ((skA S a) + 1)) 11).2.1) e) h n ((numR S (skA S ((skA S a) + 1)) 11).2.2) (by rw [eq]; exact vp_in_nI (by omega) (by decide))) (lw_V q1676 q1678 qs63 q87 q1679) (wd_20 _ _ _) rfl rfl ds_X3_isDead ⟨rfl, rfl⟩ ⟨by simp only [prm]; omega, by simp only [prm]; omega⟩ rfl rfl ⟨Nat.le_of_ble_eq_true rfl, Nat.le_of_ble_eq_true rfl⟩ (Nat.le_of_ble_eq_true rfl) rfl ?_
              refine g_if_eq C (pc := 149) (tgt := 178) dX3_unit_149 (by decide) (fun c_149 => ?_) (fun c_149 => ?_)
              · skip
                have c_149 : ¬ (decide (¬ nb (((pS S ((numR S (skA S ((skA S a) + 1)) 11).1) ((numR S (skA S ((skA S a) + 1)) 11).2.1) e).2.1 60) ((numR S (skA S ((skA S a) + 1)) 11).2.2).toNatClampNeg) = 0)) = true := b2i_0.mp c_149
                have c_149 := Decidable.not_not.mp fun z => c_149 (decide_eq_true z)
                refine g_iconst C (pc := 178) (v := 0) dX3_unit_178 (by decide) ?_
                exact g_zretD C (b2i_nb _) R dX3_unit_179 (Nat.le_refl _) (Nat.le_refl _) (by rw [← hfin.2.2.2]; first | (rw [if_neg c_128]; rfl) | (rw [if_pos c_128]; unfold leafV; rw [if_neg hl9]; first | (rw [if_pos c_134]; first | exact b2_f (fun z => c_141 (nb_0.mp z.1)) | exact b2_f (fun z => z.2 c_149) | exact b2_t ⟨nb_0.mpr c_141, c_149⟩) | (rw [if_neg c_134]; first | (rw [if_pos c_163]; first | exact b2_t c_171 | exact b2_f c_171) | (rw [if_neg c_163]; first | exact b2_t c_171 | exact b2_f c_171)))) (congrArg (fun z => wd K z h) (by rw [← hfin.1, ← hfin.2.1, ← hfin.2.2.1])) rfl
              · skip
                have c_149 : (decide (¬ nb (((pS S ((numR S (skA S ((skA S a) + 1)) 11).1) ((numR S (skA S ((skA S a) + 1)) 11).2.1) e).2.1 60) ((numR S (skA S ((skA S a) + 1)) 11).2.2).toNatClampNeg) = 0)) = true := b2i_n0.mp c_149
                have c_149 := of_decide_eq_true c_149
                refine g_goto C (pc := 152) (tgt := 174) dX3_unit_152 (by decide) ?_
                refine g_iconst C (pc := 174) (v := 1) dX3_unit_174 (by decide) ?_
                refine g_goto C (pc := 175) (tgt := 179) dX3_unit_175 (by decide) ?_
                exact g_zretD C (b2i_nb _) R dX3_unit_179 (Nat.le_refl _) (Nat.le_refl _) (by rw [← hfin.2.2.2]; first | (rw [if_neg c_128]; rfl) | (rw [if_pos c_128]; unfold leafV; rw [if_neg hl9]; first | (rw [if_pos c_134]; first | exact b2_f (fun z => c_141 (nb_0.mp z.1)) | exact b2_f (fun z => z.2 c_149) | exact b2_t ⟨nb_0.mpr c_141, c_149⟩) | (rw [if_neg c_134]; first | (rw [if_pos c_163]; first | exact b2_t c_171 | exact b2_f c_171) | (rw [if_neg c_163]; first | exact b2_t c_171 | exact b2_f c_171)))) (congrArg (fun z => wd K z h) (by rw [← hfin.1, ← hfin.2.1, ← hfin.2.2.1])) rfl
      refine g_iload_n C (pc := 88) dX3_unit_88 rfl ?_
      refine g_bipush C (pc := 89) (v := 104) dX3_unit_89 (by decide) ?_
      refine g_icmp_eq C (pc := 91) (tgt := 106) dX3_unit_91 (by decide) (fun c_91 => ?_) (fun c_91 => ?_)
      · skip
        have c_91 : ((lookV S a) : Int32) = 104 := c_91
        refine G.mask [true, true, false, false] rfl ?_
        exact join_106  (by first | exact Or.inl c_91 | exact Or.inr (Or.inl c_97) | exact Or.inr (Or.inr c_103))
      · skip
        have c_91 : ¬ ((lookV S a) : Int32) = 104 := c_91
        refine g_iload_n C (pc := 94) dX3_unit_94 rfl ?_
        refine g_bipush C (pc := 95) (v := 110) dX3_unit_95 (by decide) ?_
        refine g_icmp_eq C (pc := 97) (tgt := 106) dX3_unit_97 (by decide) (fun c_97 => ?_) (fun c_97 => ?_)
        · skip
          have c_97 : ((lookV S a) : Int32) = 110 := c_97
          refine G.mask [true, true, false, false] rfl ?_
          exact join_106  (by first | exact Or.inl c_91 | exact Or.inr (Or.inl c_97) | exact Or.inr (Or.inr c_103))
        · skip
          have c_97 : ¬ ((lookV S a) : Int32) = 110 := c_97
          refine g_iload_n C (pc := 100) dX3_unit_100 rfl ?_
          refine g_bipush C (pc := 101) (v := 100) dX3_unit_101 (by decide) ?_
          refine g_icmp_ne C (pc := 103) (tgt := 180) dX3_unit_103 (by decide) (fun c_103 => ?_) (fun c_103 => ?_)
          · skip
            have c_103 : ¬ ((lookV S a) : Int32) = 100 := c_103
            rw [if_neg (fun z => by rcases z with z | z | z; exact c_91 z; exact c_97 z; exact c_103 z)] at hP
            refine g_iload_n C (pc := 180) dX3_unit_180 rfl ?_
            refine g_bipush C (pc := 181) (v := 119) dX3_unit_181 (by decide) ?_
            refine g_icmp_ne C (pc := 183) (tgt := 239) dX3_unit_183 (by decide) (fun c_183 => ?_) (fun c_183 => ?_)
            · skip
              have c_183 : ¬ ((lookV S a) : Int32) = 119 := c_183
              rw [if_neg c_183] at hP
              refine g_aload_n C (pc := 239) dX3_unit_239 rfl rfl ?_
              refine g_sipush C (pc := 240) (v := 999) dX3_unit_240 (by decide) ?_
              refine g_callVD C (pc := 243) [.int 999] [] dX3_unit_243 (c_X3_number l D B K S h n (skA S a) e 999 hT hska) (lw_V q1668 q1670 qs61 q87 q1671) (wd_20 _ _ _) rfl rfl ds_X3_number ⟨rfl, rfl⟩ ⟨by simp only [prm]; omega, by simp only [prm]; omega⟩ rfl rfl ⟨Nat.le_of_ble_eq_true rfl, Nat.le_of_ble_eq_true rfl⟩ (Nat.le_of_ble_eq_true rfl) rfl ?_
              rw [sk_idem]
              have hn1 : (numR S (skA S a) 999).1 ≤ (mN S 54) := numR_le hska
              refine g_istore_n C (pc := 246) (L' := [some (.ref 20), some (.int (lookV S a)), some (.int ((numR S (skA S a) 999).2.2)), none]) dX3_unit_246 (by decide) rfl rfl ?_
              refine g_aload_n C (pc := 247) dX3_unit_247 rfl rfl ?_
              refine m_geti C 56 (pc := 248) (v := (numR S (skA S a) 999).2.1) dX3_unit_248 rfl q1249 rfl rfl ?_
              refine g_iconst C (pc := 251) (v := (-1)) dX3_unit_251 (by decide) ?_
              refine g_icmp_ne C (pc := 252) (tgt := 264) dX3_unit_252 (by decide) (fun c_252 => ?_) (fun c_252 => ?_)
              · skip
                have c_252 : ¬ (((numR S (skA S a) 999).2.1) : Int32) = -1 := c_252
                rw [if_pos c_252] at hP
                have hfin := PR_i (Option.some.inj hP)
                refine g_aload_n C (pc := 264) dX3_unit_264 rfl rfl ?_
                refine g_callVD C (pc := 265) [] [] dX3_unit_265 (c_X3_stop l D B K S h n ((numR S (skA S a) 999).1) ((numR S (skA S a) 999).2.1) e  hT (by omega)) (lw_V q1660 q1662 qs59 q87 q1663) (wd_20 _ _ _) rfl rfl ds_X3_stop ⟨rfl, rfl⟩ ⟨by simp only [prm]; omega, by simp only [prm]; omega⟩ rfl rfl ⟨Nat.le_of_ble_eq_true rfl, Nat.le_of_ble_eq_true rfl⟩ (Nat.le_of_ble_eq_true rfl) rfl ?_
                exact g_zretD C (b2i_nb _) R dX3_unit_268 (Nat.le_refl _) (Nat.le_refl _) (by rw [← hfin.2.2.2] <;> rfl) (congrArg (fun z => wd K z h) (by rw [← hfin.1, ← hfin.2.1, ← hfin.2.2.1] <;> first | rfl | (simp only [stp, if_neg c_252]; done) | (simp only [stp, if_true]; done))) rfl
              · skip
                have c_252 : (((numR S (skA S a) 999).2.1) : Int32) = -1 := c_252
                rw [if_neg (not_not_intro c_252)] at hP
                rw [c_252]
                refine g_aload_n C (pc := 255) dX3_unit_255 rfl rfl ?_
                refine g_callVD C (pc := 256) [] [] dX3_unit_256 (c_X3_look l D B K S h n ((numR S (skA S a) 999).1) (-1) e  hT hn1) (lw_V q1652 q1654 qs57 q87 q1655) (wd_20 _ _ _) rfl rfl ds_X3_look ⟨rfl, rfl⟩ ⟨by simp only [prm]; omega, by simp only [prm]; omega⟩ rfl rfl ⟨Nat.le_of_ble_eq_true rfl, Nat.le_of_ble_eq_true rfl⟩ (Nat.le_of_ble_eq_true rfl) rfl ?_
                have hs1 := sk_le hn1
                refine g_bipush C (pc := 259) (v := 123) dX3_unit_259 (by decide) ?_
                refine g_icmp_eq C (pc := 261) (tgt := 269) dX3_unit_261 (by decide) (fun c_261 => ?_) (fun c_261 => ?_)
                · skip
                  have c_261 : ((lookV S ((numR S (skA S a) 999).1)) : Int32) = 123 := c_261
                  have hsl := look_lt c_261 (by decide)
                  refine g_aload_n C (pc := 269) dX3_unit_269 rfl rfl ?_
                  refine g_callVD C (pc := 270) [] [] dX3_unit_270 (c_X3_goesIn l D B K S h n (skA S ((numR S (skA S a) 999).1)) (-1) e  hT (by omega)) (lw_V q1656 q1658 qs58 q87 q1659) (wd_20 _ _ _) rfl rfl ds_X3_goesIn ⟨rfl, rfl⟩ ⟨by simp only [prm]; omega, by simp only [prm]; omega⟩ rfl rfl ⟨Nat.le_of_ble_eq_true rfl, Nat.le_of_ble_eq_true rfl⟩ (Nat.le_of_ble_eq_true rfl) rfl ?_
                  refine g_if_ne C (pc := 273) (tgt := 278) dX3_unit_273 (by decide) (fun c_273 => ?_) (fun c_273 => ?_)
                  · skip
                    have c_273 : (decide (¬ e = 8)) = true := b2i_n0.mp c_273
                    have c_273 : ¬ e = 8 := of_decide_eq_true c_273
                    rw [if_neg (fun z => z.elim (fun q => q c_261) c_273)] at hP
                    obtain ⟨⟨y1, y2, y3, y4⟩, hy1, hy2⟩ := bindP_some hP
                    dsimp only at hy2
                    have hy3 := P_le _ _ _ _ _ _ _ _ hy1 (by omega)
                    simp only [if_neg c_273]
                    refine g_aload_n C (pc := 278) dX3_unit_278 rfl rfl ?_
                    refine g_callVD C (pc := 279) [] [] dX3_unit_279 (H1.1 K S h n (skA S (numR S (skA S a) 999).1 + 1) (e + 1) y1 y2 y3 y4  hM hT (by omega) hy1) (lw_V q1640 q1642 qs54 q87 q1643) (wd_20 _ _ _) rfl rfl ds_X3_any ⟨rfl, rfl⟩ ⟨by simp only [prm]; omega, by simp only [prm]; omega⟩ rfl rfl ⟨Nat.le_of_ble_eq_true rfl, Nat.le_of_ble_eq_true rfl⟩ (Nat.le_of_ble_eq_true rfl) rfl ?_
                    refine g_if_eq C (pc := 282) (tgt := 289) dX3_unit_282 (by decide) (fun c_282 => ?_) (fun c_282 => ?_)
                    · skip
                      have c_282 : ¬ y4 = true := b2i_0.mp c_282
                      refine g_iconst C (pc := 289) (v := 0) dX3_unit_289 (by decide) ?_
                      refine g_istore_n C (pc := 290) (L' := [some (.ref 20), some (.int (lookV S a)), some (.int ((numR S (skA S a) 999).2.2)), some (.int 0)]) dX3_unit_290 (by decide) rfl rfl ?_
                      have loop_291 : ∀ (d291 : Nat) (j : Nat) (p : Nat) (f1 : Int32) (e1 : Int32) (x : Int32), (j ≤ m1) → (p ≤ (mN S 54)) → ((f1 = -1 ∧ P S j 5 false (numR S (skA S a) 999).2.2 x p e1 = some (a2, f2, e2, b)) ∨ (¬ f1 = -1 ∧ (a2, f2, e2, b) = ((p, f1, e1, false) : PR))) → j < d291 → G X D B (wd K (pS S p f1 e1) h) n 0 0 [some (.ref 20), none, some (.int ((numR S (skA S a) 999).2.2)), some (.int x)] 291 [] := by
                        intro d291
                        induction d291 with
                        | zero =>
                          intro j p f1 e1 x hj hp hR hm291
                          exact absurd hm291 (Nat.not_lt_zero _)
                        | succ d291 ih291 =>
                          intro j p f1 e1 x hj hp hR hm291
                          refine g_aload_n C (pc := 291) dX3_unit_291 rfl rfl ?_
                          refine m_geti C 56 (pc := 292) (v := f1) dX3_unit_292 rfl q1249 rfl rfl ?_
                          refine g_iconst C (pc := 295) (v := (-1)) dX3_unit_295 (by decide) ?_
                          refine g_icmp_ne C (pc := 296) (tgt := 336) dX3_unit_296 (by decide) (fun c_296 => ?_) (fun c_296 => ?_)
                          · skip
                            have c_296 : ¬ ((f1) : Int32) = -1 := c_296
                            have hR2 := PR_i (by rcases hR with ⟨q, _⟩ | ⟨_, q⟩; exact absurd q c_296; exact q : (a2, f2, e2, b) = ((p, f1, e1, false) : PR))
                            refine g_aload_n C (pc := 336) dX3_unit_336 rfl rfl ?_
                            refine g_bipush C (pc := 337) (v := 125) dX3_unit_337 (by decide) ?_
                            refine g_callVD C (pc := 339) [.int 125] [] dX3_unit_339 (c_X3_takes l D B K S h n p f1 e1 125 hT (by omega) (by decide)) (lw_V q1664 q1666 qs60 q87 q1667) (wd_20 _ _ _) rfl rfl ds_X3_takes ⟨rfl, rfl⟩ ⟨by simp only [prm]; omega, by simp only [prm]; omega⟩ rfl rfl ⟨Nat.le_of_ble_eq_true rfl, Nat.le_of_ble_eq_true rfl⟩ (Nat.le_of_ble_eq_true rfl) rfl ?_
                            refine g_if_ne C (pc := 342) (tgt := 347) dX3_unit_342 (by decide) (fun c_342 => ?_) (fun c_342 => ?_)
                            · skip
                              have c_342 : (decide (f1 = -1 ∧ lookV S p = 125)) = true := b2i_n0.mp c_342
                              have c_342 := of_decide_eq_true c_342
                              simp only [if_pos c_342.1, if_pos c_342.2]
                              refine g_aload_n C (pc := 347) dX3_unit_347 rfl rfl ?_
                              refine g_dup C (pc := 348) dX3_unit_348 rfl ?_
                              refine m_geti C 57 (pc := 349) (v := e1) dX3_unit_349 rfl q1250 rfl rfl ?_
                              refine g_iconst C (pc := 352) (v := 1) dX3_unit_352 (by decide) ?_
                              refine g_isub C (pc := 353) dX3_unit_353 ?_
                              refine m_puti C 57 (pc := 354) dX3_unit_354 rfl q1250 rfl rfl rfl ?_
                              rw [pS_deep]
                              refine g_iload_n C (pc := 357) dX3_unit_357 rfl ?_
                              refine g_iload_n C (pc := 358) dX3_unit_358 rfl ?_
                              refine g_icmp_lt C (pc := 359) (tgt := 366) dX3_unit_359 (by decide) (fun c_359 => ?_) (fun c_359 => ?_)
                              · skip
                                have c_359 : ((x) : Int32) < ((numR S (skA S a) 999).2.2) := c_359
                                refine g_iconst C (pc := 366) (v := 0) dX3_unit_366 (by decide) ?_
                                exact g_zretD C (b2i_nb _) R dX3_unit_367 (Nat.le_refl _) (Nat.le_refl _) (by first | exact absurd c_342.1 c_296 | (rw [look_idem] at c_342; rw [if_pos c_342.2] at hR1; rw [← (PR_i (Option.some.inj hR1)).2.2.2]; first | exact b2_f (not_not_intro c_359) | exact b2_t c_359)) (congrArg (fun z => wd K z h) (by first | exact absurd c_342.1 c_296 | (rw [look_idem] at c_342; rw [if_pos c_342.2] at hR1; have z2 := PR_i (Option.some.inj hR1); rw [← z2.1, ← z2.2.1, ← z2.2.2.1, sk_idem, c_342.1]))) rfl
                              · skip
                                have c_359 : ¬ ((x) : Int32) < ((numR S (skA S a) 999).2.2) := c_359
                                refine g_iconst C (pc := 362) (v := 1) dX3_unit_362 (by decide) ?_
                                refine g_goto C (pc := 363) (tgt := 367) dX3_unit_363 (by decide) ?_
                                exact g_zretD C (b2i_nb _) R dX3_unit_367 (Nat.le_refl _) (Nat.le_refl _) (by first | exact absurd c_342.1 c_296 | (rw [look_idem] at c_342; rw [if_pos c_342.2] at hR1; rw [← (PR_i (Option.some.inj hR1)).2.2.2]; first | exact b2_f (not_not_intro c_359) | exact b2_t c_359)) (congrArg (fun z => wd K z h) (by first | exact absurd c_342.1 c_296 | (rw [look_idem] at c_342; rw [if_pos c_342.2] at hR1; have z2 := PR_i (Option.some.inj hR1); rw [← z2.1, ← z2.2.1, ← z2.2.2.1, sk_idem, c_342.1]))) rfl
                            · skip
                              have c_342 : ¬ (decide (f1 = -1 ∧ lookV S p = 125)) = true := b2i_0.mp c_342
                              have c_342 := fun z => c_342 (decide_eq_true z)
                              refine g_iconst C (pc := 345) (v := 0) dX3_unit_345 (by decide) ?_
                              exact g_zretD C (b2i_nb _) R dX3_unit_346 (Nat.le_refl _) (Nat.le_refl _) (by first | (rw [hR2.2.2.2]; rfl) | (rw [look_idem] at c_342; rw [if_neg (fun z => c_342 ⟨c_296, z⟩)] at hR1; rw [← (PR_i (Option.some.inj hR1)).2.2.2]; rfl)) (congrArg (fun z => wd K z h) (by first | (rw [hR2.1, hR2.2.1, hR2.2.2.1]; simp only [if_neg c_296]; done) | (rw [look_idem] at c_342; have z1 := fun z => c_342 ⟨c_296, z⟩; rw [if_neg z1] at hR1; have z2 := PR_i (Option.some.inj hR1); rw [← z2.1, ← z2.2.1, ← z2.2.2.1]; simp only [look_idem, sk_idem, if_pos c_296, if_neg z1]))) rfl
                          · skip
                            have c_296 : ((f1) : Int32) = -1 := c_296
                            have hR1 := (by rcases hR with ⟨_, q⟩ | ⟨q, _⟩; exact q; exact absurd c_296 q : P S j 5 false (numR S (skA S a) 999).2.2 x p e1 = some (a2, f2, e2, b))
                            obtain ⟨j2, hj2⟩ := P_pos hR1
                            rw [hj2, P_5] at hR1
                            have hsp := sk_le hp
                            refine g_aload_n C (pc := 299) dX3_unit_299 rfl rfl ?_
                            refine g_callVD C (pc := 300) [] [] dX3_unit_300 (c_X3_look l D B K S h n p f1 e1  hT (by omega)) (lw_V q1652 q1654 qs57 q87 q1655) (wd_20 _ _ _) rfl rfl ds_X3_look ⟨rfl, rfl⟩ ⟨by simp only [prm]; omega, by simp only [prm]; omega⟩ rfl rfl ⟨Nat.le_of_ble_eq_true rfl, Nat.le_of_ble_eq_true rfl⟩ (Nat.le_of_ble_eq_true rfl) rfl ?_
                            refine g_bipush C (pc := 303) (v := 44) dX3_unit_303 (by decide) ?_
                            refine g_icmp_ne C (pc := 305) (tgt := 336) dX3_unit_305 (by decide) (fun c_305 => ?_) (fun c_305 => ?_)
                            · skip
                              have c_305 : ¬ ((lookV S p) : Int32) = 44 := c_305
                              rw [if_neg c_305] at hR1
                              refine g_aload_n C (pc := 336) dX3_unit_336 rfl rfl ?_
                              refine g_bipush C (pc := 337) (v := 125) dX3_unit_337 (by decide) ?_
                              refine g_callVD C (pc := 339) [.int 125] [] dX3_unit_339 (c_X3_takes l D B K S h n (skA S p) f1 e1 125 hT (by omega) (by decide)) (lw_V q1664 q1666 qs60 q87 q1667) (wd_20 _ _ _) rfl rfl ds_X3_takes ⟨rfl, rfl⟩ ⟨by simp only [prm]; omega, by simp only [prm]; omega⟩ rfl rfl ⟨Nat.le_of_ble_eq_true rfl, Nat.le_of_ble_eq_true rfl⟩ (Nat.le_of_ble_eq_true rfl) rfl ?_
                              refine g_if_ne C (pc := 342) (tgt := 347) dX3_unit_342 (by decide) (fun c_342 => ?_) (fun c_342 => ?_)
                              · skip
                                have c_342 : (decide (f1 = -1 ∧ lookV S (skA S p) = 125)) = true := b2i_n0.mp c_342
                                have c_342 := of_decide_eq_true c_342
                                simp only [if_pos c_342.1, if_pos c_342.2]
                                refine g_aload_n C (pc := 347) dX3_unit_347 rfl rfl ?_
                                refine g_dup C (pc := 348) dX3_unit_348 rfl ?_
                                refine m_geti C 57 (pc := 349) (v := e1) dX3_unit_349 rfl q1250 rfl rfl ?_
                                refine g_iconst C (pc := 352) (v := 1) dX3_unit_352 (by decide) ?_
                                refine g_isub C (pc := 353) dX3_unit_353 ?_
                                refine m_puti C 57 (pc := 354) dX3_unit_354 rfl q1250 rfl rfl rfl ?_
                                rw [pS_deep]
                                refine g_iload_n C (pc := 357) dX3_unit_357 rfl ?_
                                refine g_iload_n C (pc := 358) dX3_unit_358 rfl ?_
                                refine g_icmp_lt C (pc := 359) (tgt := 366) dX3_unit_359 (by decide) (fun c_359 => ?_) (fun c_359 => ?_)
                                · skip
                                  have c_359 : ((x) : Int32) < ((numR S (skA S a) 999).2.2) := c_359
                                  refine g_iconst C (pc := 366) (v := 0) dX3_unit_366 (by decide) ?_
                                  exact g_zretD C (b2i_nb _) R dX3_unit_367 (Nat.le_refl _) (Nat.le_refl _) (by first | exact absurd c_342.1 c_296 | (rw [look_idem] at c_342; rw [if_pos c_342.2] at hR1; rw [← (PR_i (Option.some.inj hR1)).2.2.2]; first | exact b2_f (not_not_intro c_359) | exact b2_t c_359)) (congrArg (fun z => wd K z h) (by first | exact absurd c_342.1 c_296 | (rw [look_idem] at c_342; rw [if_pos c_342.2] at hR1; have z2 := PR_i (Option.some.inj hR1); rw [← z2.1, ← z2.2.1, ← z2.2.2.1, sk_idem, c_342.1]))) rfl
                                · skip
                                  have c_359 : ¬ ((x) : Int32) < ((numR S (skA S a) 999).2.2) := c_359
                                  refine g_iconst C (pc := 362) (v := 1) dX3_unit_362 (by decide) ?_
                                  refine g_goto C (pc := 363) (tgt := 367) dX3_unit_363 (by decide) ?_
                                  exact g_zretD C (b2i_nb _) R dX3_unit_367 (Nat.le_refl _) (Nat.le_refl _) (by first | exact absurd c_342.1 c_296 | (rw [look_idem] at c_342; rw [if_pos c_342.2] at hR1; rw [← (PR_i (Option.some.inj hR1)).2.2.2]; first | exact b2_f (not_not_intro c_359) | exact b2_t c_359)) (congrArg (fun z => wd K z h) (by first | exact absurd c_342.1 c_296 | (rw [look_idem] at c_342; rw [if_pos c_342.2] at hR1; have z2 := PR_i (Option.some.inj hR1); rw [← z2.1, ← z2.2.1, ← z2.2.2.1, sk_idem, c_342.1]))) rfl
                              · skip
                                have c_342 : ¬ (decide (f1 = -1 ∧ lookV S (skA S p) = 125)) = true := b2i_0.mp c_342
                                have c_342 := fun z => c_342 (decide_eq_true z)
                                refine g_iconst C (pc := 345) (v := 0) dX3_unit_345 (by decide) ?_
                                exact g_zretD C (b2i_nb _) R dX3_unit_346 (Nat.le_refl _) (Nat.le_refl _) (by first | (rw [hR2.2.2.2]; rfl) | (rw [look_idem] at c_342; rw [if_neg (fun z => c_342 ⟨c_296, z⟩)] at hR1; rw [← (PR_i (Option.some.inj hR1)).2.2.2]; rfl)) (congrArg (fun z => wd K z h) (by first | (rw [hR2.1, hR2.2.1, hR2.2.2.1]; simp only [if_neg c_296]; done) | (rw [look_idem] at c_342; have z1 := fun z => c_342 ⟨c_296, z⟩; rw [if_neg z1] at hR1; have z2 := PR_i (Option.some.inj hR1); rw [← z2.1, ← z2.2.1, ← z2.2.2.1]; simp only [look_idem, sk_idem, if_pos c_296, if_neg z1]))) rfl
                            · skip
                              have c_305 : ((lookV S p) : Int32) = 44 := c_305
                              rw [if_pos c_305] at hR1
                              have hsl := look_lt c_305 (by decide)
                              obtain ⟨⟨z1, z2, z3, z4⟩, hz1, hz2⟩ := bindP_some hR1
                              dsimp only at hz2
                              have hz3 := P_le _ _ _ _ _ _ _ _ hz1 (by omega)
                              refine g_aload_n C (pc := 308) dX3_unit_308 rfl rfl ?_
                              refine g_dup C (pc := 309) dX3_unit_309 rfl ?_
                              refine m_geti C 55 (pc := 310) (v := nI (skA S p)) dX3_unit_310 rfl q1248 rfl rfl ?_
                              refine g_iconst C (pc := 313) (v := 1) dX3_unit_313 (by decide) ?_
                              refine g_iadd C (pc := 314) dX3_unit_314 ?_
                              refine G.topc (nI_1 _) ?_
                              refine m_puti C 55 (pc := 315) dX3_unit_315 rfl q1248 rfl rfl rfl ?_
                              rw [pS_at]
                              refine g_iload_n C (pc := 318) dX3_unit_318 rfl ?_
                              refine g_aload_n C (pc := 319) dX3_unit_319 rfl rfl ?_
                              rw [c_296]
                              refine g_callVD C (pc := 320) [] [.int x] dX3_unit_320 ((H j2 (by omega)).1 K S h n (skA S p + 1) e1 z1 z2 z3 z4  hM hT (by omega) hz1) (lw_V q1640 q1642 qs54 q87 q1643) (wd_20 _ _ _) rfl rfl ds_X3_any ⟨rfl, rfl⟩ ⟨by simp only [prm]; omega, by simp only [prm]; omega⟩ rfl rfl ⟨Nat.le_of_ble_eq_true rfl, Nat.le_of_ble_eq_true rfl⟩ (Nat.le_of_ble_eq_true rfl) rfl ?_
                              refine g_if_eq C (pc := 323) (tgt := 330) dX3_unit_323 (by decide) (fun c_323 => ?_) (fun c_323 => ?_)
                              · skip
                                have c_323 : ¬ z4 = true := b2i_0.mp c_323
                                refine g_iconst C (pc := 330) (v := 0) dX3_unit_330 (by decide) ?_
                                refine g_iadd C (pc := 331) dX3_unit_331 ?_
                                refine G.topc (Int32.add_zero _) ?_
                                refine g_istore_n C (pc := 332) (L' := [some (.ref 20), none, some (.int ((numR S (skA S a) 999).2.2)), some (.int x)]) dX3_unit_332 (by decide) rfl rfl ?_
                                refine g_goto C (pc := 333) (tgt := 291) dX3_unit_333 (by decide) ?_
                                refine G.mask [true, false, true, true] rfl ?_
                                exact ih291 j2 z1 z2 z3 x (by omega) (hz3) (by first | (rw [b2i_t c_323] at hz2; rw [e_x_332]; exact hz2) | (rw [b2i_f c_323, Int32.add_zero] at hz2; exact hz2)) (by omega)
                              · skip
                                have c_323 : z4 = true := b2i_n0.mp c_323
                                refine g_iconst C (pc := 326) (v := 1) dX3_unit_326 (by decide) ?_
                                refine g_goto C (pc := 327) (tgt := 331) dX3_unit_327 (by decide) ?_
                                refine g_iadd C (pc := 331) dX3_unit_331 ?_
                                refine G.topi (fun x_332 e_x_332 => ?_)
                                have e_x_332 : x_332 = x + 1 := e_x_332
                                refine g_istore_n C (pc := 332) (L' := [some (.ref 20), none, some (.int ((numR S (skA S a) 999).2.2)), some (.int x_332)]) dX3_unit_332 (by decide) rfl rfl ?_
                                refine g_goto C (pc := 333) (tgt := 291) dX3_unit_333 (by decide) ?_
                                refine G.mask [true, false, true, true] rfl ?_
                                exact ih291 j2 z1 z2 z3 x_332 (by omega) (hz3) (by first | (rw [b2i_t c_323] at hz2; rw [e_x_332]; exact hz2) | (rw [b2i_f c_323, Int32.add_zero] at hz2; exact hz2)) (by omega)
                      refine G.mask [true, false, true, true] rfl ?_
                      exact loop_291 _ m1 y1 y2 y3 0 (Nat.le_refl _) (hy3) (by first | (rw [b2i_t c_282] at hy2; exact hy2) | (rw [b2i_f c_282] at hy2; exact hy2)) (Nat.lt_succ_self _)
                    · skip
                      have c_282 : y4 = true := b2i_n0.mp c_282
                      refine g_iconst C (pc := 285) (v := 1) dX3_unit_285 (by decide) ?_
                      refine g_goto C (pc := 286) (tgt := 290) dX3_unit_286 (by decide) ?_
                      refine g_istore_n C (pc := 290) (L' := [some (.ref 20), some (.int (lookV S a)), some (.int ((numR S (skA S a) 999).2.2)), some (.int 1)]) dX3_unit_290 (by decide) rfl rfl ?_
                      have loop_291 : ∀ (d291 : Nat) (j : Nat) (p : Nat) (f1 : Int32) (e1 : Int32) (x : Int32), (j ≤ m1) → (p ≤ (mN S 54)) → ((f1 = -1 ∧ P S j 5 false (numR S (skA S a) 999).2.2 x p e1 = some (a2, f2, e2, b)) ∨ (¬ f1 = -1 ∧ (a2, f2, e2, b) = ((p, f1, e1, false) : PR))) → j < d291 → G X D B (wd K (pS S p f1 e1) h) n 0 0 [some (.ref 20), none, some (.int ((numR S (skA S a) 999).2.2)), some (.int x)] 291 [] := by
                        intro d291
                        induction d291 with
                        | zero =>
                          intro j p f1 e1 x hj hp hR hm291
                          exact absurd hm291 (Nat.not_lt_zero _)
                        | succ d291 ih291 =>
                          intro j p f1 e1 x hj hp hR hm291
                          refine g_aload_n C (pc := 291) dX3_unit_291 rfl rfl ?_
                          refine m_geti C 56 (pc := 292) (v := f1) dX3_unit_292 rfl q1249 rfl rfl ?_
                          refine g_iconst C (pc := 295) (v := (-1)) dX3_unit_295 (by decide) ?_
                          refine g_icmp_ne C (pc := 296) (tgt := 336) dX3_unit_296 (by decide) (fun c_296 => ?_) (fun c_296 => ?_)
                          · skip
                            have c_296 : ¬ ((f1) : Int32) = -1 := c_296
                            have hR2 := PR_i (by rcases hR with ⟨q, _⟩ | ⟨_, q⟩; exact absurd q c_296; exact q : (a2, f2, e2, b) = ((p, f1, e1, false) : PR))
                            refine g_aload_n C (pc := 336) dX3_unit_336 rfl rfl ?_
                            refine g_bipush C (pc := 337) (v := 125) dX3_unit_337 (by decide) ?_
                            refine g_callVD C (pc := 339) [.int 125] [] dX3_unit_339 (c_X3_takes l D B K S h n p f1 e1 125 hT (by omega) (by decide)) (lw_V q1664 q1666 qs60 q87 q1667) (wd_20 _ _ _) rfl rfl ds_X3_takes ⟨rfl, rfl⟩ ⟨by simp only [prm]; omega, by simp only [prm]; omega⟩ rfl rfl ⟨Nat.le_of_ble_eq_true rfl, Nat.le_of_ble_eq_true rfl⟩ (Nat.le_of_ble_eq_true rfl) rfl ?_
                            refine g_if_ne C (pc := 342) (tgt := 347) dX3_unit_342 (by decide) (fun c_342 => ?_) (fun c_342 => ?_)
                            · skip
                              have c_342 : (decide (f1 = -1 ∧ lookV S p = 125)) = true := b2i_n0.mp c_342
                              have c_342 := of_decide_eq_true c_342
                              simp only [if_pos c_342.1, if_pos c_342.2]
                              refine g_aload_n C (pc := 347) dX3_unit_347 rfl rfl ?_
                              refine g_dup C (pc := 348) dX3_unit_348 rfl ?_
                              refine m_geti C 57 (pc := 349) (v := e1) dX3_unit_349 rfl q1250 rfl rfl ?_
                              refine g_iconst C (pc := 352) (v := 1) dX3_unit_352 (by decide) ?_
                              refine g_isub C (pc := 353) dX3_unit_353 ?_
                              refine m_puti C 57 (pc := 354) dX3_unit_354 rfl q1250 rfl rfl rfl ?_
                              rw [pS_deep]
                              refine g_iload_n C (pc := 357) dX3_unit_357 rfl ?_
                              refine g_iload_n C (pc := 358) dX3_unit_358 rfl ?_
                              refine g_icmp_lt C (pc := 359) (tgt := 366) dX3_unit_359 (by decide) (fun c_359 => ?_) (fun c_359 => ?_)
                              · skip
                                have c_359 : ((x) : Int32) < ((numR S (skA S a) 999).2.2) := c_359
                                refine g_iconst C (pc := 366) (v := 0) dX3_unit_366 (by decide) ?_
                                exact g_zretD C (b2i_nb _) R dX3_unit_367 (Nat.le_refl _) (Nat.le_refl _) (by first | exact absurd c_342.1 c_296 | (rw [look_idem] at c_342; rw [if_pos c_342.2] at hR1; rw [← (PR_i (Option.some.inj hR1)).2.2.2]; first | exact b2_f (not_not_intro c_359) | exact b2_t c_359)) (congrArg (fun z => wd K z h) (by first | exact absurd c_342.1 c_296 | (rw [look_idem] at c_342; rw [if_pos c_342.2] at hR1; have z2 := PR_i (Option.some.inj hR1); rw [← z2.1, ← z2.2.1, ← z2.2.2.1, sk_idem, c_342.1]))) rfl
                              · skip
                                have c_359 : ¬ ((x) : Int32) < ((numR S (skA S a) 999).2.2) := c_359
                                refine g_iconst C (pc := 362) (v := 1) dX3_unit_362 (by decide) ?_
                                refine g_goto C (pc := 363) (tgt := 367) dX3_unit_363 (by decide) ?_
                                exact g_zretD C (b2i_nb _) R dX3_unit_367 (Nat.le_refl _) (Nat.le_refl _) (by first | exact absurd c_342.1 c_296 | (rw [look_idem] at c_342; rw [if_pos c_342.2] at hR1; rw [← (PR_i (Option.some.inj hR1)).2.2.2]; first | exact b2_f (not_not_intro c_359) | exact b2_t c_359)) (congrArg (fun z => wd K z h) (by first | exact absurd c_342.1 c_296 | (rw [look_idem] at c_342; rw [if_pos c_342.2] at hR1; have z2 := PR_i (Option.some.inj hR1); rw [← z2.1, ← z2.2.1, ← z2.2.2.1, sk_idem, c_342.1]))) rfl
                            · skip
                              have c_342 : ¬ (decide (f1 = -1 ∧ lookV S p = 125)) = true := b2i_0.mp c_342
                              have c_342 := fun z => c_342 (decide_eq_true z)
                              refine g_iconst C (pc := 345) (v := 0) dX3_unit_345 (by decide) ?_
                              exact g_zretD C (b2i_nb _) R dX3_unit_346 (Nat.le_refl _) (Nat.le_refl _) (by first | (rw [hR2.2.2.2]; rfl) | (rw [look_idem] at c_342; rw [if_neg (fun z => c_342 ⟨c_296, z⟩)] at hR1; rw [← (PR_i (Option.some.inj hR1)).2.2.2]; rfl)) (congrArg (fun z => wd K z h) (by first | (rw [hR2.1, hR2.2.1, hR2.2.2.1]; simp only [if_neg c_296]; done) | (rw [look_idem] at c_342; have z1 := fun z => c_342 ⟨c_296, z⟩; rw [if_neg z1] at hR1; have z2 := PR_i (Option.some.inj hR1); rw [← z2.1, ← z2.2.1, ← z2.2.2.1]; simp only [look_idem, sk_idem, if_pos c_296, if_neg z1]))) rfl
                          · skip
                            have c_296 : ((f1) : Int32) = -1 := c_296
                            have hR1 := (by rcases hR with ⟨_, q⟩ | ⟨q, _⟩; exact q; exact absurd c_296 q : P S j 5 false (numR S (skA S a) 999).2.2 x p e1 = some (a2, f2, e2, b))
                            obtain ⟨j2, hj2⟩ := P_pos hR1
                            rw [hj2, P_5] at hR1
                            have hsp := sk_le hp
                            refine g_aload_n C (pc := 299) dX3_unit_299 rfl rfl ?_
                            refine g_callVD C (pc := 300) [] [] dX3_unit_300 (c_X3_look l D B K S h n p f1 e1  hT (by omega)) (lw_V q1652 q1654 qs57 q87 q1655) (wd_20 _ _ _) rfl rfl ds_X3_look ⟨rfl, rfl⟩ ⟨by simp only [prm]; omega, by simp only [prm]; omega⟩ rfl rfl ⟨Nat.le_of_ble_eq_true rfl, Nat.le_of_ble_eq_true rfl⟩ (Nat.le_of_ble_eq_true rfl) rfl ?_
                            refine g_bipush C (pc := 303) (v := 44) dX3_unit_303 (by decide) ?_
                            refine g_icmp_ne C (pc := 305) (tgt := 336) dX3_unit_305 (by decide) (fun c_305 => ?_) (fun c_305 => ?_)
                            · skip
                              have c_305 : ¬ ((lookV S p) : Int32) = 44 := c_305
                              rw [if_neg c_305] at hR1
                              refine g_aload_n C (pc := 336) dX3_unit_336 rfl rfl ?_
                              refine g_bipush C (pc := 337) (v := 125) dX3_unit_337 (by decide) ?_
                              refine g_callVD C (pc := 339) [.int 125] [] dX3_unit_339 (c_X3_takes l D B K S h n (skA S p) f1 e1 125 hT (by omega) (by decide)) (lw_V q1664 q1666 qs60 q87 q1667) (wd_20 _ _ _) rfl rfl ds_X3_takes ⟨rfl, rfl⟩ ⟨by simp only [prm]; omega, by simp only [prm]; omega⟩ rfl rfl ⟨Nat.le_of_ble_eq_true rfl, Nat.le_of_ble_eq_true rfl⟩ (Nat.le_of_ble_eq_true rfl) rfl ?_
                              refine g_if_ne C (pc := 342) (tgt := 347) dX3_unit_342 (by decide) (fun c_342 => ?_) (fun c_342 => ?_)
                              · skip
                                have c_342 : (decide (f1 = -1 ∧ lookV S (skA S p) = 125)) = true := b2i_n0.mp c_342
                                have c_342 := of_decide_eq_true c_342
                                simp only [if_pos c_342.1, if_pos c_342.2]
                                refine g_aload_n C (pc := 347) dX3_unit_347 rfl rfl ?_
                                refine g_dup C (pc := 348) dX3_unit_348 rfl ?_
                                refine m_geti C 57 (pc := 349) (v := e1) dX3_unit_349 rfl q1250 rfl rfl ?_
                                refine g_iconst C (pc := 352) (v := 1) dX3_unit_352 (by decide) ?_
                                refine g_isub C (pc := 353) dX3_unit_353 ?_
                                refine m_puti C 57 (pc := 354) dX3_unit_354 rfl q1250 rfl rfl rfl ?_
                                rw [pS_deep]
                                refine g_iload_n C (pc := 357) dX3_unit_357 rfl ?_
                                refine g_iload_n C (pc := 358) dX3_unit_358 rfl ?_
                                refine g_icmp_lt C (pc := 359) (tgt := 366) dX3_unit_359 (by decide) (fun c_359 => ?_) (fun c_359 => ?_)
                                · skip
                                  have c_359 : ((x) : Int32) < ((numR S (skA S a) 999).2.2) := c_359
                                  refine g_iconst C (pc := 366) (v := 0) dX3_unit_366 (by decide) ?_
                                  exact g_zretD C (b2i_nb _) R dX3_unit_367 (Nat.le_refl _) (Nat.le_refl _) (by first | exact absurd c_342.1 c_296 | (rw [look_idem] at c_342; rw [if_pos c_342.2] at hR1; rw [← (PR_i (Option.some.inj hR1)).2.2.2]; first | exact b2_f (not_not_intro c_359) | exact b2_t c_359)) (congrArg (fun z => wd K z h) (by first | exact absurd c_342.1 c_296 | (rw [look_idem] at c_342; rw [if_pos c_342.2] at hR1; have z2 := PR_i (Option.some.inj hR1); rw [← z2.1, ← z2.2.1, ← z2.2.2.1, sk_idem, c_342.1]))) rfl
                                · skip
                                  have c_359 : ¬ ((x) : Int32) < ((numR S (skA S a) 999).2.2) := c_359
                                  refine g_iconst C (pc := 362) (v := 1) dX3_unit_362 (by decide) ?_
                                  refine g_goto C (pc := 363) (tgt := 367) dX3_unit_363 (by decide) ?_
                                  exact g_zretD C (b2i_nb _) R dX3_unit_367 (Nat.le_refl _) (Nat.le_refl _) (by first | exact absurd c_342.1 c_296 | (rw [look_idem] at c_342; rw [if_pos c_342.2] at hR1; rw [← (PR_i (Option.some.inj hR1)).2.2.2]; first | exact b2_f (not_not_intro c_359) | exact b2_t c_359)) (congrArg (fun z => wd K z h) (by first | exact absurd c_342.1 c_296 | (rw [look_idem] at c_342; rw [if_pos c_342.2] at hR1; have z2 := PR_i (Option.some.inj hR1); rw [← z2.1, ← z2.2.1, ← z2.2.2.1, sk_idem, c_342.1]))) rfl
                              · skip
                                have c_342 : ¬ (decide (f1 = -1 ∧ lookV S (skA S p) = 125)) = true := b2i_0.mp c_342
                                have c_342 := fun z => c_342 (decide_eq_true z)
                                refine g_iconst C (pc := 345) (v := 0) dX3_unit_345 (by decide) ?_
                                exact g_zretD C (b2i_nb _) R dX3_unit_346 (Nat.le_refl _) (Nat.le_refl _) (by first | (rw [hR2.2.2.2]; rfl) | (rw [look_idem] at c_342; rw [if_neg (fun z => c_342 ⟨c_296, z⟩)] at hR1; rw [← (PR_i (Option.some.inj hR1)).2.2.2]; rfl)) (congrArg (fun z => wd K z h) (by first | (rw [hR2.1, hR2.2.1, hR2.2.2.1]; simp only [if_neg c_296]; done) | (rw [look_idem] at c_342; have z1 := fun z => c_342 ⟨c_296, z⟩; rw [if_neg z1] at hR1; have z2 := PR_i (Option.some.inj hR1); rw [← z2.1, ← z2.2.1, ← z2.2.2.1]; simp only [look_idem, sk_idem, if_pos c_296, if_neg z1]))) rfl
                            · skip
                              have c_305 : ((lookV S p) : Int32) = 44 := c_305
                              rw [if_pos c_305] at hR1
                              have hsl := look_lt c_305 (by decide)
                              obtain ⟨⟨z1, z2, z3, z4⟩, hz1, hz2⟩ := bindP_some hR1
                              dsimp only at hz2
                              have hz3 := P_le _ _ _ _ _ _ _ _ hz1 (by omega)
                              refine g_aload_n C (pc := 308) dX3_unit_308 rfl rfl ?_
                              refine g_dup C (pc := 309) dX3_unit_309 rfl ?_
                              refine m_geti C 55 (pc := 310) (v := nI (skA S p)) dX3_unit_310 rfl q1248 rfl rfl ?_
                              refine g_iconst C (pc := 313) (v := 1) dX3_unit_313 (by decide) ?_
                              refine g_iadd C (pc := 314) dX3_unit_314 ?_
                              refine G.topc (nI_1 _) ?_
                              refine m_puti C 55 (pc := 315) dX3_unit_315 rfl q1248 rfl rfl rfl ?_
                              rw [pS_at]
                              refine g_iload_n C (pc := 318) dX3_unit_318 rfl ?_
                              refine g_aload_n C (pc := 319) dX3_unit_319 rfl rfl ?_
                              rw [c_296]
                              refine g_callVD C (pc := 320) [] [.int x] dX3_unit_320 ((H j2 (by omega)).1 K S h n (skA S p + 1) e1 z1 z2 z3 z4  hM hT (by omega) hz1) (lw_V q1640 q1642 qs54 q87 q1643) (wd_20 _ _ _) rfl rfl ds_X3_any ⟨rfl, rfl⟩ ⟨by simp only [prm]; omega, by simp only [prm]; omega⟩ rfl rfl ⟨Nat.le_of_ble_eq_true rfl, Nat.le_of_ble_eq_true rfl⟩ (Nat.le_of_ble_eq_true rfl) rfl ?_
                              refine g_if_eq C (pc := 323) (tgt := 330) dX3_unit_323 (by decide) (fun c_323 => ?_) (fun c_323 => ?_)
                              · skip
                                have c_323 : ¬ z4 = true := b2i_0.mp c_323
                                refine g_iconst C (pc := 330) (v := 0) dX3_unit_330 (by decide) ?_
                                refine g_iadd C (pc := 331) dX3_unit_331 ?_
                                refine G.topc (Int32.add_zero _) ?_
                                refine g_istore_n C (pc := 332) (L' := [some (.ref 20), none, some (.int ((numR S (skA S a) 999).2.2)), some (.int x)]) dX3_unit_332 (by decide) rfl rfl ?_
                                refine g_goto C (pc := 333) (tgt := 291) dX3_unit_333 (by decide) ?_
                                refine G.mask [true, false, true, true] rfl ?_
                                exact ih291 j2 z1 z2 z3 x (by omega) (hz3) (by first | (rw [b2i_t c_323] at hz2; rw [e_x_332]; exact hz2) | (rw [b2i_f c_323, Int32.add_zero] at hz2; exact hz2)) (by omega)
                              · skip
                                have c_323 : z4 = true := b2i_n0.mp c_323
                                refine g_iconst C (pc := 326) (v := 1) dX3_unit_326 (by decide) ?_
                                refine g_goto C (pc := 327) (tgt := 331) dX3_unit_327 (by decide) ?_
                                refine g_iadd C (pc := 331) dX3_unit_331 ?_
                                refine G.topi (fun x_332 e_x_332 => ?_)
                                have e_x_332 : x_332 = x + 1 := e_x_332
                                refine g_istore_n C (pc := 332) (L' := [some (.ref 20), none, some (.int ((numR S (skA S a) 999).2.2)), some (.int x_332)]) dX3_unit_332 (by decide) rfl rfl ?_
                                refine g_goto C (pc := 333) (tgt := 291) dX3_unit_333 (by decide) ?_
                                refine G.mask [true, false, true, true] rfl ?_
                                exact ih291 j2 z1 z2 z3 x_332 (by omega) (hz3) (by first | (rw [b2i_t c_323] at hz2; rw [e_x_332]; exact hz2) | (rw [b2i_f c_323, Int32.add_zero] at hz2; exact hz2)) (by omega)
                      refine G.mask [true, false, true, true] rfl ?_
                      exact loop_291 _ m1 y1 y2 y3 1 (Nat.le_refl _) (hy3) (by first | (rw [b2i_t c_282] at hy2; exact hy2) | (rw [b2i_f c_282] at hy2; exact hy2)) (Nat.lt_succ_self _)
                  · skip
                    have c_273 : ¬ (decide (¬ e = 8)) = true := b2i_0.mp c_273
                    have c_273 : e = 8 := Decidable.not_not.mp fun z => c_273 (decide_eq_true z)
                    rw [if_pos (Or.inr c_273)] at hP
                    have hfin := PR_i (Option.some.inj hP)
                    simp only [if_pos c_273]
                    refine g_iconst C (pc := 276) (v := 0) dX3_unit_276 (by decide) ?_
                    exact g_zretD C (b2i_nb _) R dX3_unit_277 (Nat.le_refl _) (Nat.le_refl _) (by rw [← hfin.2.2.2] <;> rfl) (congrArg (fun z => wd K z h) (by rw [← hfin.1, ← hfin.2.1, ← hfin.2.2.1] <;> first | rfl | (simp only [stp, if_neg c_252]; done) | (simp only [stp, if_true]; done))) rfl
                · skip
                  have c_261 : ¬ ((lookV S ((numR S (skA S a) 999).1)) : Int32) = 123 := c_261
                  rw [if_pos (Or.inl c_261)] at hP
                  have hfin := PR_i (Option.some.inj hP)
                  refine g_aload_n C (pc := 264) dX3_unit_264 rfl rfl ?_
                  refine g_callVD C (pc := 265) [] [] dX3_unit_265 (c_X3_stop l D B K S h n (skA S ((numR S (skA S a) 999).1)) (-1) e  hT (by omega)) (lw_V q1660 q1662 qs59 q87 q1663) (wd_20 _ _ _) rfl rfl ds_X3_stop ⟨rfl, rfl⟩ ⟨by simp only [prm]; omega, by simp only [prm]; omega⟩ rfl rfl ⟨Nat.le_of_ble_eq_true rfl, Nat.le_of_ble_eq_true rfl⟩ (Nat.le_of_ble_eq_true rfl) rfl ?_
                  exact g_zretD C (b2i_nb _) R dX3_unit_268 (Nat.le_refl _) (Nat.le_refl _) (by rw [← hfin.2.2.2] <;> rfl) (congrArg (fun z => wd K z h) (by rw [← hfin.1, ← hfin.2.1, ← hfin.2.2.1] <;> first | rfl | (simp only [stp, if_neg c_252]; done) | (simp only [stp, if_true]; done))) rfl
            · skip
              have c_183 : ((lookV S a) : Int32) = 119 := c_183
              rw [if_pos c_183] at hP
              have hsl := look_lt c_183 (by decide)
              have hfin := PR_i (Option.some.inj hP)
              refine g_aload_n C (pc := 186) dX3_unit_186 rfl rfl ?_
              refine g_dup C (pc := 187) dX3_unit_187 rfl ?_
              refine m_geti C 55 (pc := 188) (v := nI (skA S a)) dX3_unit_188 rfl q1248 rfl rfl ?_
              refine g_iconst C (pc := 191) (v := 1) dX3_unit_191 (by decide) ?_
              refine g_iadd C (pc := 192) dX3_unit_192 ?_
              refine G.topc (nI_1 _) ?_
              refine m_puti C 55 (pc := 193) dX3_unit_193 rfl q1248 rfl rfl rfl ?_
              rw [pS_at]
              refine g_aload_n C (pc := 196) dX3_unit_196 rfl rfl ?_
              refine g_sipush C (pc := 197) (v := 999) dX3_unit_197 (by decide) ?_
              refine g_callVD C (pc := 200) [.int 999] [] dX3_unit_200 (c_X3_number l D B K S h n ((skA S a) + 1) e 999 hT (by omega)) (lw_V q1668 q1670 qs61 q87 q1671) (wd_20 _ _ _) rfl rfl ds_X3_number ⟨rfl, rfl⟩ ⟨by simp only [prm]; omega, by simp only [prm]; omega⟩ rfl rfl ⟨Nat.le_of_ble_eq_true rfl, Nat.le_of_ble_eq_true rfl⟩ (Nat.le_of_ble_eq_true rfl) rfl ?_
              refine g_istore_n C (pc := 203) (L' := [some (.ref 20), some (.int (lookV S a)), some (.int ((numR S (skA S ((skA S a) + 1)) 999).2.2)), none]) dX3_unit_203 (by decide) rfl rfl ?_
              refine g_aload_n C (pc := 204) dX3_unit_204 rfl rfl ?_
              refine m_geti C 56 (pc := 205) (v := (numR S (skA S ((skA S a) + 1)) 999).2.1) dX3_unit_205 rfl q1249 rfl rfl ?_
              refine g_iconst C (pc := 208) (v := (-1)) dX3_unit_208 (by decide) ?_
              refine g_icmp_ne C (pc := 209) (tgt := 237) dX3_unit_209 (by decide) (fun c_209 => ?_) (fun c_209 => ?_)
              · skip
                have c_209 : ¬ (((numR S (skA S ((skA S a) + 1)) 999).2.1) : Int32) = -1 := c_209
                refine g_iconst C (pc := 237) (v := 0) dX3_unit_237 (by decide) ?_
                exact g_zretD C (b2i_nb _) R dX3_unit_238 (Nat.le_refl _) (Nat.le_refl _) (by rw [← hfin.2.2.2]; first | (rw [if_neg c_209]; rfl) | (rw [if_pos c_209]; unfold leafV; rw [if_pos rfl]; first | exact b2_f (fun z => z.1 c_217) | exact b2_f (fun z => z.2 c_230) | exact b2_t ⟨c_217, c_230⟩)) (congrArg (fun z => wd K z h) (by rw [← hfin.1, ← hfin.2.1, ← hfin.2.2.1])) rfl
              · skip
                have c_209 : (((numR S (skA S ((skA S a) + 1)) 999).2.1) : Int32) = -1 := c_209
                refine g_aload_n C (pc := 212) dX3_unit_212 rfl rfl ?_
                refine m_geti C 61 (pc := 213) (v := S.1 61) dX3_unit_213 rfl q1254 rfl rfl ?_
                refine g_iconst C (pc := 216) (v := (-1)) dX3_unit_216 (by decide) ?_
                refine g_icmp_eq C (pc := 217) (tgt := 237) dX3_unit_217 (by decide) (fun c_217 => ?_) (fun c_217 => ?_)
                · skip
                  have c_217 : ((S.1 61) : Int32) = -1 := c_217
                  refine g_iconst C (pc := 237) (v := 0) dX3_unit_237 (by decide) ?_
                  exact g_zretD C (b2i_nb _) R dX3_unit_238 (Nat.le_refl _) (Nat.le_refl _) (by rw [← hfin.2.2.2]; first | (rw [if_neg c_209]; rfl) | (rw [if_pos c_209]; unfold leafV; rw [if_pos rfl]; first | exact b2_f (fun z => z.1 c_217) | exact b2_f (fun z => z.2 c_230) | exact b2_t ⟨c_217, c_230⟩)) (congrArg (fun z => wd K z h) (by rw [← hfin.1, ← hfin.2.1, ← hfin.2.2.1])) rfl
                · skip
                  have c_217 : ¬ ((S.1 61) : Int32) = -1 := c_217
                  refine g_aload_n C (pc := 220) dX3_unit_220 rfl rfl ?_
                  refine m_geti C 59 (pc := 221) (v := S.1 59) dX3_unit_221 rfl q1252 rfl rfl ?_
                  refine g_aload_n C (pc := 224) dX3_unit_224 rfl rfl ?_
                  refine m_geti C 61 (pc := 225) (v := S.1 61) dX3_unit_225 rfl q1254 rfl rfl ?_
                  refine g_isub C (pc := 228) dX3_unit_228 ?_
                  refine g_iload_n C (pc := 229) dX3_unit_229 rfl ?_
                  refine g_icmp_lt C (pc := 230) (tgt := 237) dX3_unit_230 (by decide) (fun c_230 => ?_) (fun c_230 => ?_)
                  · skip
                    have c_230 : (((S.1 59) - (S.1 61)) : Int32) < ((numR S (skA S ((skA S a) + 1)) 999).2.2) := c_230
                    refine g_iconst C (pc := 237) (v := 0) dX3_unit_237 (by decide) ?_
                    exact g_zretD C (b2i_nb _) R dX3_unit_238 (Nat.le_refl _) (Nat.le_refl _) (by rw [← hfin.2.2.2]; first | (rw [if_neg c_209]; rfl) | (rw [if_pos c_209]; unfold leafV; rw [if_pos rfl]; first | exact b2_f (fun z => z.1 c_217) | exact b2_f (fun z => z.2 c_230) | exact b2_t ⟨c_217, c_230⟩)) (congrArg (fun z => wd K z h) (by rw [← hfin.1, ← hfin.2.1, ← hfin.2.2.1])) rfl
                  · skip
                    have c_230 : ¬ (((S.1 59) - (S.1 61)) : Int32) < ((numR S (skA S ((skA S a) + 1)) 999).2.2) := c_230
                    refine g_iconst C (pc := 233) (v := 1) dX3_unit_233 (by decide) ?_
                    refine g_goto C (pc := 234) (tgt := 238) dX3_unit_234 (by decide) ?_
                    exact g_zretD C (b2i_nb _) R dX3_unit_238 (Nat.le_refl _) (Nat.le_refl _) (by rw [← hfin.2.2.2]; first | (rw [if_neg c_209]; rfl) | (rw [if_pos c_209]; unfold leafV; rw [if_pos rfl]; first | exact b2_f (fun z => z.1 c_217) | exact b2_f (fun z => z.2 c_230) | exact b2_t ⟨c_217, c_230⟩)) (congrArg (fun z => wd K z h) (by rw [← hfin.1, ← hfin.2.1, ← hfin.2.2.1])) rfl
          · skip
            have c_103 : ((lookV S a) : Int32) = 100 := c_103
            refine G.mask [true, true, false, false] rfl ?_
            exact join_106  (by first | exact Or.inl c_91 | exact Or.inr (Or.inl c_97) | exact Or.inr (Or.inr c_103))
    · skip
      have c_48 : ((lookV S a) : Int32) = 40 := c_48
      rw [if_pos c_48] at hP
      have hsl := look_lt c_48 (by decide)
      refine g_aload_n C (pc := 51) dX3_unit_51 rfl rfl ?_
      refine g_callVD C (pc := 52) [] [] dX3_unit_52 (c_X3_goesIn l D B K S h n (skA S a) (-1) e  hT (by omega)) (lw_V q1656 q1658 qs58 q87 q1659) (wd_20 _ _ _) rfl rfl ds_X3_goesIn ⟨rfl, rfl⟩ ⟨by simp only [prm]; omega, by simp only [prm]; omega⟩ rfl rfl ⟨Nat.le_of_ble_eq_true rfl, Nat.le_of_ble_eq_true rfl⟩ (Nat.le_of_ble_eq_true rfl) rfl ?_
      refine g_if_ne C (pc := 55) (tgt := 60) dX3_unit_55 (by decide) (fun c_55 => ?_) (fun c_55 => ?_)
      · skip
        have c_55 : (decide (¬ e = 8)) = true := b2i_n0.mp c_55
        have c_55 : ¬ e = 8 := of_decide_eq_true c_55
        rw [if_neg c_55] at hP
        obtain ⟨⟨y1, y2, y3, y4⟩, hy1, hy2⟩ := bindP_some hP
        dsimp only at hy2
        have hy3 := P_le _ _ _ _ _ _ _ _ hy1 (by omega)
        simp only [if_neg c_55]
        refine g_aload_n C (pc := 60) dX3_unit_60 rfl rfl ?_
        refine g_callVD C (pc := 61) [] [] dX3_unit_61 (H1.1 K S h n (skA S a + 1) (e + 1) y1 y2 y3 y4  hM hT (by omega) hy1) (lw_V q1640 q1642 qs54 q87 q1643) (wd_20 _ _ _) rfl rfl ds_X3_any ⟨rfl, rfl⟩ ⟨by simp only [prm]; omega, by simp only [prm]; omega⟩ rfl rfl ⟨Nat.le_of_ble_eq_true rfl, Nat.le_of_ble_eq_true rfl⟩ (Nat.le_of_ble_eq_true rfl) rfl ?_
        refine g_istore_n C (pc := 64) (L' := [some (.ref 20), some (.int (lookV S a)), some (.int (b2i y4)), none]) dX3_unit_64 (by decide) rfl rfl ?_
        refine g_aload_n C (pc := 65) dX3_unit_65 rfl rfl ?_
        refine g_bipush C (pc := 66) (v := 41) dX3_unit_66 (by decide) ?_
        refine g_callVD C (pc := 68) [.int 41] [] dX3_unit_68 (c_X3_takes l D B K S h n y1 y2 y3 41 hT hy3 (by decide)) (lw_V q1664 q1666 qs60 q87 q1667) (wd_20 _ _ _) rfl rfl ds_X3_takes ⟨rfl, rfl⟩ ⟨by simp only [prm]; omega, by simp only [prm]; omega⟩ rfl rfl ⟨Nat.le_of_ble_eq_true rfl, Nat.le_of_ble_eq_true rfl⟩ (Nat.le_of_ble_eq_true rfl) rfl ?_
        refine g_if_ne C (pc := 71) (tgt := 76) dX3_unit_71 (by decide) (fun c_71 => ?_) (fun c_71 => ?_)
        · skip
          have c_71 : (decide (y2 = -1 ∧ lookV S y1 = 41)) = true := b2i_n0.mp c_71
          have c_71 : y2 = -1 ∧ lookV S y1 = 41 := of_decide_eq_true c_71
          have hfin := PR_i (by rcases hy2 with ⟨_, z⟩ | ⟨z, _⟩; (rw [if_pos c_71.2] at z; exact Option.some.inj z); exact absurd c_71.1 z : (skA S y1 + 1, (-1 : Int32), y3 - 1, y4) = ((a2, f2, e2, b) : PR))
          simp only [if_pos c_71.1, if_pos c_71.2]
          refine g_aload_n C (pc := 76) dX3_unit_76 rfl rfl ?_
          refine g_dup C (pc := 77) dX3_unit_77 rfl ?_
          refine m_geti C 57 (pc := 78) (v := y3) dX3_unit_78 rfl q1250 rfl rfl ?_
          refine g_iconst C (pc := 81) (v := 1) dX3_unit_81 (by decide) ?_
          refine g_isub C (pc := 82) dX3_unit_82 ?_
          refine m_puti C 57 (pc := 83) dX3_unit_83 rfl q1250 rfl rfl rfl ?_
          rw [pS_deep]
          refine g_iload_n C (pc := 86) dX3_unit_86 rfl ?_
          exact g_zretD C (b2i_nb _) R dX3_unit_87 (Nat.le_refl _) (Nat.le_refl _) (by rw [← hfin.2.2.2]) (congrArg (fun z => wd K z h) (by rw [← hfin.1, ← hfin.2.1, ← hfin.2.2.1, c_71.1])) rfl
        · skip
          have c_71 : ¬ (decide (y2 = -1 ∧ lookV S y1 = 41)) = true := b2i_0.mp c_71
          have c_71 : ¬ (y2 = -1 ∧ lookV S y1 = 41) := fun z => c_71 (decide_eq_true z)
          have hfin := PR_i (by rcases hy2 with ⟨q, z⟩ | ⟨q, z⟩; (rw [if_neg (fun t => c_71 ⟨q, t⟩)] at z; simp only [if_pos q]; exact Option.some.inj z); (simp only [if_neg q]; exact z.symm) : ((if y2 = -1 then skA S y1 else y1), (if y2 = -1 then nI (skA S y1) else y2), y3, false) = ((a2, f2, e2, b) : PR))
          refine g_iconst C (pc := 74) (v := 0) dX3_unit_74 (by decide) ?_
          exact g_zretD C (b2i_nb _) R dX3_unit_75 (Nat.le_refl _) (Nat.le_refl _) (by rw [← hfin.2.2.2] <;> rfl) (congrArg (fun z => wd K z h) (by rw [← hfin.1, ← hfin.2.1, ← hfin.2.2.1]; by_cases q : y2 = -1 <;> simp only [q, if_true, if_false] <;> first | rfl | (rw [if_neg (fun t => c_71 ⟨q, t⟩), if_neg (fun t => c_71 ⟨q, t⟩)]))) rfl
      · skip
        have c_55 : ¬ (decide (¬ e = 8)) = true := b2i_0.mp c_55
        have c_55 : e = 8 := Decidable.not_not.mp fun z => c_55 (decide_eq_true z)
        rw [if_pos c_55] at hP
        have hfin := PR_i (Option.some.inj hP)
        simp only [if_pos c_55]
        refine g_iconst C (pc := 58) (v := 0) dX3_unit_58 (by decide) ?_
        exact g_zretD C (b2i_nb _) R dX3_unit_59 (Nat.le_refl _) (Nat.le_refl _) (by rw [← hfin.2.2.2] <;> rfl) (congrArg (fun z => wd K z h) (by rw [← hfin.1, ← hfin.2.1, ← hfin.2.2.1] <;> first | rfl | (simp only [stp, if_neg c_252]; done) | (simp only [stp, if_true]; done))) rfl
  · skip
    have c_8 : ((lookV S a) : Int32) = 33 := c_8
    rw [if_pos c_8] at hP
    have hsl := look_lt c_8 (by decide)
    refine g_aload_n C (pc := 11) dX3_unit_11 rfl rfl ?_
    refine g_callVD C (pc := 12) [] [] dX3_unit_12 (c_X3_goesIn l D B K S h n (skA S a) (-1) e  hT (by omega)) (lw_V q1656 q1658 qs58 q87 q1659) (wd_20 _ _ _) rfl rfl ds_X3_goesIn ⟨rfl, rfl⟩ ⟨by simp only [prm]; omega, by simp only [prm]; omega⟩ rfl rfl ⟨Nat.le_of_ble_eq_true rfl, Nat.le_of_ble_eq_true rfl⟩ (Nat.le_of_ble_eq_true rfl) rfl ?_
    refine g_if_ne C (pc := 15) (tgt := 20) dX3_unit_15 (by decide) (fun c_15 => ?_) (fun c_15 => ?_)
    · skip
      have c_15 : (decide (¬ e = 8)) = true := b2i_n0.mp c_15
      have c_15 : ¬ e = 8 := of_decide_eq_true c_15
      rw [if_neg c_15] at hP
      obtain ⟨⟨y1, y2, y3, y4⟩, hy1, hy2⟩ := Option.map_eq_some_iff.mp hP
      have hfin := PR_i hy2
      simp only [if_neg c_15]
      refine g_aload_n C (pc := 20) dX3_unit_20 rfl rfl ?_
      refine g_callVD C (pc := 21) [] [] dX3_unit_21 (H1.2.2 K S h n (skA S a + 1) (e + 1) y1 y2 y3 y4  hM hT (by omega) hy1) (lw_V q1648 q1650 qs56 q87 q1651) (wd_20 _ _ _) rfl rfl ds_X3_unit ⟨rfl, rfl⟩ ⟨by simp only [prm]; omega, by simp only [prm]; omega⟩ rfl rfl ⟨Nat.le_of_ble_eq_true rfl, Nat.le_of_ble_eq_true rfl⟩ (Nat.le_of_ble_eq_true rfl) rfl ?_
      refine g_istore_n C (pc := 24) (L' := [some (.ref 20), some (.int (lookV S a)), some (.int (b2i y4)), none]) dX3_unit_24 (by decide) rfl rfl ?_
      refine g_aload_n C (pc := 25) dX3_unit_25 rfl rfl ?_
      refine g_dup C (pc := 26) dX3_unit_26 rfl ?_
      refine m_geti C 57 (pc := 27) (v := y3) dX3_unit_27 rfl q1250 rfl rfl ?_
      refine g_iconst C (pc := 30) (v := 1) dX3_unit_30 (by decide) ?_
      refine g_isub C (pc := 31) dX3_unit_31 ?_
      refine m_puti C 57 (pc := 32) dX3_unit_32 rfl q1250 rfl rfl rfl ?_
      rw [pS_deep]
      refine g_iload_n C (pc := 35) dX3_unit_35 rfl ?_
      refine g_if_ne C (pc := 36) (tgt := 43) dX3_unit_36 (by decide) (fun c_36 => ?_) (fun c_36 => ?_)
      · skip
        have c_36 : y4 = true := b2i_n0.mp c_36
        refine g_iconst C (pc := 43) (v := 0) dX3_unit_43 (by decide) ?_
        exact g_zretD C (b2i_nb _) R dX3_unit_44 (Nat.le_refl _) (Nat.le_refl _) (by rw [← hfin.2.2.2]; simp [b2i, c_36]) (congrArg (fun z => wd K z h) (by rw [← hfin.1, ← hfin.2.1, ← hfin.2.2.1])) rfl
      · skip
        have c_36 : ¬ y4 = true := b2i_0.mp c_36
        refine g_iconst C (pc := 39) (v := 1) dX3_unit_39 (by decide) ?_
        refine g_goto C (pc := 40) (tgt := 44) dX3_unit_40 (by decide) ?_
        exact g_zretD C (b2i_nb _) R dX3_unit_44 (Nat.le_refl _) (Nat.le_refl _) (by rw [← hfin.2.2.2]; simp [b2i, c_36]) (congrArg (fun z => wd K z h) (by rw [← hfin.1, ← hfin.2.1, ← hfin.2.2.1])) rfl
    · skip
      have c_15 : ¬ (decide (¬ e = 8)) = true := b2i_0.mp c_15
      have c_15 : e = 8 := Decidable.not_not.mp fun z => c_15 (decide_eq_true z)
      rw [if_pos c_15] at hP
      have hfin := PR_i (Option.some.inj hP)
      simp only [if_pos c_15]
      refine g_iconst C (pc := 18) (v := 0) dX3_unit_18 (by decide) ?_
      exact g_zretD C (b2i_nb _) R dX3_unit_19 (Nat.le_refl _) (Nat.le_refl _) (by rw [← hfin.2.2.2] <;> rfl) (congrArg (fun z => wd K z h) (by rw [← hfin.1, ← hfin.2.1, ← hfin.2.2.1] <;> first | rfl | (simp only [stp, if_neg c_252]; done) | (simp only [stp, if_true]; done))) rfl
theorem c_P (l : Launch) (D : gD) (B : Nat × Nat) (m : Nat) : PC l D B m := by
  induction m using Nat.strongRecOn with
  | ind m ih => exact ⟨fun K S h n a e a2 f2 e2 b hM hT ha hP => s_X3_any l D B K S h n m ih a e a2 f2 e2 b hM hT ha hP, fun K S h n a e a2 f2 e2 b hM hT ha hP => s_X3_all l D B K S h n m ih a e a2 f2 e2 b hM hT ha hP, fun K S h n a e a2 f2 e2 b hM hT ha hP => s_X3_unit l D B K S h n m ih a e a2 f2 e2 b hM hT ha hP⟩
