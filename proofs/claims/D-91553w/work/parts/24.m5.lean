/-! MODEL, part 5: falls and what they do -/
abbrev harmS (S : MS) (s k w : Int32) : Bool := if w = 1 then decide (jlshr (closesS S s (S.1 1) (-1) 0) k &&& 1 = 1) else decide (jlshr (closesS S (othersV (S.1 12) s) (S.1 1) (-1) 0) k &&& 1 = 0)
def fmore (s b : Int32) : Int32 := if b = -1 then -1 else bitc s - bitc b
def fdif (s b : Int32) : Int32 := if fmore s b < 0 then 0 else (s ^^^ b) &&& -(s ^^^ b)
def fstep (hm : Int32 → Bool) (s : Int32) (q : Int32 × Int32) : Int32 × Int32 := if 0 < fmore s q.1 ∨ ¬ hm s = true then q else (if fmore s q.1 < 0 ∨ ¬ s &&& fdif s q.1 = 0 then s else q.1, if fmore s q.1 < 0 then 1 else q.2 + 1)
def findsU (hm : Int32 → Bool) : Nat → Int32 × Int32
  | 0 => (-1, 0)
  | i + 1 => fstep hm (nI (i + 1)) (findsU hm i)
def m_finds (S : MS) (k w : Int32) : MS × Bool := if ¬ isKey S k ∨ ¬ isIn w 0 1 then ((sI S 0 0), false) else (sI (sI (layS (sI S 0 0) (S.1 1)) 83 (findsU (fun s => harmS (layS S (S.1 1)) s k w) (2 ^ (mN S 12) - 1)).1) 84 (findsU (fun s => harmS (layS S (S.1 1)) s k w) (2 ^ (mN S 12) - 1)).2, decide (¬ (findsU (fun s => harmS (layS S (S.1 1)) s k w) (2 ^ (mN S 12) - 1)).1 = -1))
def m_least (S : MS) (k w : Int32) : MS × Int32 := ((m_finds S k w).1, if (m_finds S k w).2 = true then bitc ((m_finds S k w).1.1 83) else -1)
def m_ways (S : MS) (k w : Int32) : MS × Int32 := ((m_finds S k w).1, if (m_finds S k w).2 = true then (m_finds S k w).1.1 84 else -1)
def m_first (S : MS) (k w : Int32) : MS × Int32 := ((m_finds S k w).1, if (m_finds S k w).2 = true then (m_finds S k w).1.1 83 else -1)
theorem sI_tw (S : MS) (f g : Nat) (a b c : Int32) (h : f ≠ g) : sI (sI (sI S f a) g b) g c = sI (sI S f a) g c := by
  unfold sI
  congr 1
  funext j
  simp only [upd]
  split <;> rfl
theorem sI_tw2 (S : MS) (f g : Nat) (a b c e : Int32) (h : f ≠ g) : sI (sI (sI (sI S f a) g b) g c) f e = sI (sI S f e) g c := by
  unfold sI
  congr 1
  funext j
  simp only [upd]
  by_cases h1 : j = f
  · subst h1; simp [h]
  · simp only [h1, if_false]
    split <;> rfl
theorem fstep_skip {hm : Int32 → Bool} {s b v m : Int32} (e : fmore s b = m) (h : 0 < m ∨ ¬ hm s = true) : fstep hm s (b, v) = (b, v) := by unfold fstep; rw [if_pos (by rw [e]; exact h)]
theorem fstep_new {hm : Int32 → Bool} {s b v m : Int32} (e : fmore s b = m) (h0 : ¬ 0 < m) (h1 : m < 0) (h : hm s = true) : fstep hm s (b, v) = (s, 1) := by unfold fstep; rw [if_neg (by rw [e]; exact fun q => q.elim h0 (fun z => z h)), if_pos (Or.inl (by rw [e]; exact h1)), if_pos (by rw [e]; exact h1)]
theorem fstep_set {hm : Int32 → Bool} {s b v m x : Int32} (e : fmore s b = m) (h0 : ¬ 0 < m) (h1 : ¬ m < 0) (h : hm s = true) (ex : x = (s ^^^ b) &&& -(s ^^^ b)) (h2 : ¬ s &&& x = 0) : fstep hm s (b, v) = (s, v + 1) := by unfold fstep; rw [if_neg (by rw [e]; exact fun q => q.elim h0 (fun z => z h)), if_pos (Or.inr (by unfold fdif; rw [if_neg (by rw [e]; exact h1), ← ex]; exact h2)), if_neg (by rw [e]; exact h1)]
theorem fstep_keep {hm : Int32 → Bool} {s b v m x : Int32} (e : fmore s b = m) (h0 : ¬ 0 < m) (h1 : ¬ m < 0) (h : hm s = true) (ex : x = (s ^^^ b) &&& -(s ^^^ b)) (h2 : s &&& x = 0) : fstep hm s (b, v) = (b, v + 1) := by unfold fstep; rw [if_neg (by rw [e]; exact fun q => q.elim h0 (fun z => z h)), if_neg (fun q => q.elim (by rw [e]; exact h1) (by unfold fdif; rw [if_neg (by rw [e]; exact h1), ← ex]; exact fun z => z h2)), if_neg (by rw [e]; exact h1)]
def wellS (S : MS) (p r : Int32) : Nat → Bool
  | 0 => true
  | f + 1 => wellS S p r f && (decide (¬ jlshr (closesS S ((S.2.1 74) f) (S.1 1) p r) ((S.2.1 36) p.toNatClampNeg) &&& 1 = 1) && decide (¬ jlshr (closesS S (othersV (S.1 12) ((S.2.1 74) f)) (S.1 1) p r) ((S.2.1 36) p.toNatClampNeg) &&& 1 = 0))
theorem wellS_mono {S : MS} {p r : Int32} {i n : Nat} (h : wellS S p r i = false) (hi : i ≤ n) : wellS S p r n = false := by
  induction n with
  | zero => rw [show i = 0 by omega] at h; exact h
  | succ n ih =>
    rcases Nat.lt_or_ge i (n + 1) with q | q
    · simp [wellS, ih (by omega)]
    · rw [← show i = n + 1 by omega]; exact h
def betU (wl : Int32 → Bool) (own : Int32) : Nat → Int32
  | 0 => -1
  | i + 1 => if wl (nI (i + 1)) = true ∧ (betU wl own i = -1 ∨ iabs (nI (i + 1) - own) < iabs (betU wl own i - own)) then nI (i + 1) else betU wl own i
def m_better (S : MS) (p : Int32) : MS × Int32 := if ¬ isParting S p ∨ ¬ isForce S.2.1 p.toNatClampNeg (S.1 1) then ((sI S 0 0), -1) else (layS (sI S 0 0) (S.1 1), betU (fun r => wellS (layS (sI S 0 0) (S.1 1)) p r (mN S 82)) ((S.2.1 38) p.toNatClampNeg) (bitc ((S.2.1 37) p.toNatClampNeg)).toNatClampNeg)
theorem bitc_rng (x : Int32) : bitc x = nI (bitc x).toNatClampNeg ∧ (bitc x).toNatClampNeg < 64 := by
  unfold bitc
  obtain ⟨j, hj, e⟩ := pk_andE (bc5 (bc4 (bc3 (bc2 (bc1 x))))) (m := 63) 6 (by decide)
  rw [e, nI_clamp (by omega)]
  exact ⟨rfl, hj⟩
def barU (A : Nat → Nat → Int32) (k q : Int32) (op : Int64) : Nat → Bool
  | 0 => false
  | w + 1 => barU A k q op w || decide (A 32 w = k ∧ isWrapped A w q ∧ jlshr op (A 33 w) &&& 1 = 1)
theorem barU_mono {A : Nat → Nat → Int32} {k q : Int32} {op : Int64} {i n : Nat} (h : barU A k q op i = true) (hi : i ≤ n) : barU A k q op n = true := by
  induction n with
  | zero => rw [show i = 0 by omega] at h; exact h
  | succ n ih =>
    rcases Nat.lt_or_ge i (n + 1) with z | z
    · simp [barU, ih (by omega)]
    · rw [← show i = n + 1 by omega]; exact h
def barS (A : Nat → Nat → Int32) (q : Int32) (nw : Nat) (k : Int32) (bare told : Int64) : Bool := decide (A 21 k.toNatClampNeg = 2 ∧ jlshr (bare &&& (told ^^^ (-1))) (A 23 k.toNatClampNeg) &&& 1 = 1) || barU A k q (bare &&& (told ^^^ (-1))) nw
def nextP (A : Nat → Nat → Int32) (q : Int32) (nw : Nat) (bare told : Int64) (k : Nat) : Bool := decide (jlshr bare (nI k) &&& 1 = 1 ∧ jlshr told (nI k) &&& 1 = 0) && !barS A q nw (nI k) bare told
def dnx (P : Nat → Bool) (N : Nat) : Nat → Int32
  | 0 => -1
  | i + 1 => if P (N - 1 - i) = true then nI (N - 1 - i) else dnx P N i
def ordU (f : Int64 → Int32) (i : Int32) : Nat → Nat → Int64 → Int32
  | 0, _, _ => -1
  | m + 1, n, z => if f z = -1 ∨ nI n = i then f z else ordU f i m (n + 1) (z ||| jlshl 1 (f z))
def ordV (A : Nat → Nat → Int32) (q : Int32) (nk nw : Nat) (bare : Int64) (i : Int32) : Int32 := ordU (fun z => dnx (nextP A q nw bare z) nk nk) i 40 0 0
def m_order (S : MS) (f i : Int32) : MS × Int32 := if ¬ isFall S f ∨ i < 0 then ((sI S 0 0), -1) else (layS (sI S 0 0) (S.1 1), ordV S.2.1 (S.1 1) (mN S 13) (mN S 29) (getsS S ((S.2.1 74) f.toNatClampNeg) (S.1 1)) i)

set_option maxHeartbeats 4000000 in
set_option maxRecDepth 100000 in
theorem c_X3_harms (l : Launch) (D : gD) (B : Nat × Nat) (K : KS) (S : MS) (h : gHp) (n : Nat) (s : Int32) (k : Int32) (w : Int32) (hS : MOK S) : Con l yX3_harms (ws_ yX3_harms cX3_harms 4 (some .boolean)) ({ frames := 2, cells := 0, slots := 0, locals := 52 }) D B [.ref 20, .int s, .int k, .int w] (wd K S h) n (gdt (some (.int (b2i (harmS S s k w)))) (wd K (S) h) n) 0 0 := by
  have b12 := hS.c12.2
  have b13 := hS.c13.2
  have b14 := hS.c14.2
  have b16 := hS.c16.2
  have b29 := hS.c29.2
  have b30 := hS.c30.2
  have b31 := hS.c31.2
  have b48 := hS.c48.2
  have b49 := hS.c49.2
  have b50 := hS.c50.2
  have b51 := hS.c51.2
  have b77 := hS.c77.2
  have b78 := hS.c78.2
  have b79 := hS.c79.2
  have b82 := hS.c82.2
  refine Con.begin [some (.ref 20), some (.int s), some (.int k), some (.int w)] rfl rfl (Nat.le_of_ble_eq_true rfl) rfl rfl (fun X C R => ?_)
  refine g_iload_n C (pc := 0) dX3_harms_0 rfl ?_
  refine g_iconst C (pc := 1) (v := 1) dX3_harms_1 (by decide) ?_
  refine g_icmp_ne C (pc := 2) (tgt := 33) dX3_harms_2 (by decide) (fun c_2 => ?_) (fun c_2 => ?_)
  · skip
    have c_2 : ¬ ((w) : Int32) = 1 := c_2
    refine g_aload_n C (pc := 33) dX3_harms_33 rfl rfl ?_
    refine g_aload_n C (pc := 34) dX3_harms_34 rfl rfl ?_
    refine g_iload_n C (pc := 35) dX3_harms_35 rfl ?_
    refine g_callVD C (pc := 36) [.int s] [.ref 20] dX3_harms_36 (c_X3_others l D B K S h n s ) (lw_V q1831 q1833 qs77 q87 q1834) (wd_20 _ _ _) rfl rfl ds_X3_others ⟨rfl, rfl⟩ ⟨Nat.le_of_ble_eq_true rfl, Nat.le_of_ble_eq_true rfl⟩ rfl rfl ⟨Nat.le_of_ble_eq_true rfl, Nat.le_of_ble_eq_true rfl⟩ (Nat.le_of_ble_eq_true rfl) rfl ?_
    refine g_aload_n C (pc := 39) dX3_harms_39 rfl rfl ?_
    refine m_geti C 1 (pc := 40) (v := S.1 1) dX3_harms_40 rfl q1194 rfl rfl ?_
    refine g_iconst C (pc := 43) (v := (-1)) dX3_harms_43 (by decide) ?_
    refine g_iconst C (pc := 44) (v := 0) dX3_harms_44 (by decide) ?_
    refine g_callVD C (pc := 45) [.int (othersV (S.1 12) s), .int (S.1 1), .int (-1), .int 0] [] dX3_harms_45 (c_X3_closes l D B K S h n (othersV (S.1 12) s) (S.1 1) (-1) 0 hS) (lw_V q1619 q1621 qs50 q87 q1622) (wd_20 _ _ _) rfl rfl ds_X3_closes ⟨rfl, rfl⟩ ⟨Nat.le_of_ble_eq_true rfl, Nat.le_of_ble_eq_true rfl⟩ rfl rfl ⟨Nat.le_of_ble_eq_true rfl, Nat.le_of_ble_eq_true rfl⟩ (Nat.le_of_ble_eq_true rfl) rfl ?_
    refine g_iload_n C (pc := 48) dX3_harms_48 rfl ?_
    refine g_lshr C (pc := 49) (v := jlshr (closesS S (othersV (S.1 12) s) (S.1 1) (-1) 0) k) dX3_harms_49 rfl ?_
    refine g_lconst C (pc := 50) (v := 1) dX3_harms_50 (by decide) ?_
    refine g_land C (pc := 51) dX3_harms_51 ?_
    refine g_lconst C (pc := 52) (v := 0) dX3_harms_52 (by decide) ?_
    refine g_lcmp C (pc := 53) dX3_harms_53 ?_
    refine g_if_ne C (pc := 54) (tgt := 61) dX3_harms_54 (by decide) (fun c_54 => ?_) (fun c_54 => ?_)
    · skip
      have c_54 := lcmp_n0.mp c_54
      refine g_iconst C (pc := 61) (v := 0) dX3_harms_61 (by decide) ?_
      exact g_zretD C (b2i_nb _) R dX3_harms_62 (Nat.le_refl _) (Nat.le_refl _) (by simp [harmS, b2i, *]) rfl rfl
    · skip
      have c_54 := lcmp_0.mp c_54
      refine g_iconst C (pc := 57) (v := 1) dX3_harms_57 (by decide) ?_
      refine g_goto C (pc := 58) (tgt := 62) dX3_harms_58 (by decide) ?_
      exact g_zretD C (b2i_nb _) R dX3_harms_62 (Nat.le_refl _) (Nat.le_refl _) (by simp [harmS, b2i, *]) rfl rfl
  · skip
    have c_2 : ((w) : Int32) = 1 := c_2
    refine g_aload_n C (pc := 5) dX3_harms_5 rfl rfl ?_
    refine g_iload_n C (pc := 6) dX3_harms_6 rfl ?_
    refine g_aload_n C (pc := 7) dX3_harms_7 rfl rfl ?_
    refine m_geti C 1 (pc := 8) (v := S.1 1) dX3_harms_8 rfl q1194 rfl rfl ?_
    refine g_iconst C (pc := 11) (v := (-1)) dX3_harms_11 (by decide) ?_
    refine g_iconst C (pc := 12) (v := 0) dX3_harms_12 (by decide) ?_
    refine g_callVD C (pc := 13) [.int s, .int (S.1 1), .int (-1), .int 0] [] dX3_harms_13 (c_X3_closes l D B K S h n s (S.1 1) (-1) 0 hS) (lw_V q1619 q1621 qs50 q87 q1622) (wd_20 _ _ _) rfl rfl ds_X3_closes ⟨rfl, rfl⟩ ⟨Nat.le_of_ble_eq_true rfl, Nat.le_of_ble_eq_true rfl⟩ rfl rfl ⟨Nat.le_of_ble_eq_true rfl, Nat.le_of_ble_eq_true rfl⟩ (Nat.le_of_ble_eq_true rfl) rfl ?_
    refine g_iload_n C (pc := 16) dX3_harms_16 rfl ?_
    refine g_lshr C (pc := 17) (v := jlshr (closesS S s (S.1 1) (-1) 0) k) dX3_harms_17 rfl ?_
    refine g_lconst C (pc := 18) (v := 1) dX3_harms_18 (by decide) ?_
    refine g_land C (pc := 19) dX3_harms_19 ?_
    refine g_lconst C (pc := 20) (v := 1) dX3_harms_20 (by decide) ?_
    refine g_lcmp C (pc := 21) dX3_harms_21 ?_
    refine g_if_ne C (pc := 22) (tgt := 29) dX3_harms_22 (by decide) (fun c_22 => ?_) (fun c_22 => ?_)
    · skip
      have c_22 := lcmp_n0.mp c_22
      refine g_iconst C (pc := 29) (v := 0) dX3_harms_29 (by decide) ?_
      refine g_goto C (pc := 30) (tgt := 62) dX3_harms_30 (by decide) ?_
      exact g_zretD C (b2i_nb _) R dX3_harms_62 (Nat.le_refl _) (Nat.le_refl _) (by simp [harmS, b2i, *]) rfl rfl
    · skip
      have c_22 := lcmp_0.mp c_22
      refine g_iconst C (pc := 25) (v := 1) dX3_harms_25 (by decide) ?_
      refine g_goto C (pc := 26) (tgt := 62) dX3_harms_26 (by decide) ?_
      exact g_zretD C (b2i_nb _) R dX3_harms_62 (Nat.le_refl _) (Nat.le_refl _) (by simp [harmS, b2i, *]) rfl rfl
theorem ds_X3_harms : yX3_harms.cls ≠ "java/lang/invoke/MethodHandle" ∧ yX3_harms.cls ≠ "java/lang/invoke/VarHandle" ∧ (parseMethodDescriptor yX3_harms.desc).map (fun d => d.parameters.length) = some 3 := by decide +kernel
set_option maxHeartbeats 4000000 in
set_option maxRecDepth 100000 in
theorem c_X3_finds (l : Launch) (D : gD) (B : Nat × Nat) (K : KS) (S : MS) (h : gHp) (n : Nat) (k : Int32) (w : Int32) (hS : MOK S) : Con l yX3_finds (ws_ yX3_finds cX3_finds 6 (some .boolean)) ({ frames := 3, cells := 0, slots := 0, locals := 75 }) D B [.ref 20, .int k, .int w] (wd K S h) n (gdt (some (.int (b2i (m_finds S k w).2))) (wd K ((m_finds S k w).1) h) n) 0 0 := by
  have b12 := hS.c12.2
  have b13 := hS.c13.2
  have b14 := hS.c14.2
  have b16 := hS.c16.2
  have b29 := hS.c29.2
  have b30 := hS.c30.2
  have b31 := hS.c31.2
  have b48 := hS.c48.2
  have b49 := hS.c49.2
  have b50 := hS.c50.2
  have b51 := hS.c51.2
  have b77 := hS.c77.2
  have b78 := hS.c78.2
  have b79 := hS.c79.2
  have b82 := hS.c82.2
  refine Con.begin [some (.ref 20), some (.int k), some (.int w), none, none, none] rfl rfl (Nat.le_of_ble_eq_true rfl) rfl rfl (fun X C R => ?_)
  refine g_aload_n C (pc := 0) dX3_finds_0 rfl rfl ?_
  refine g_iconst C (pc := 1) (v := 0) dX3_finds_1 (by decide) ?_
  refine m_puti C 0 (pc := 2) dX3_finds_2 rfl q1193 rfl rfl rfl ?_
  refine g_aload_n C (pc := 5) dX3_finds_5 rfl rfl ?_
  refine g_iload_n C (pc := 6) dX3_finds_6 rfl ?_
  refine g_callVD C (pc := 7) [.int k] [] dX3_finds_7 (c_X3_isKey l D B K (sI S 0 0) h n k ) (lw_V q1492 q1494 qs38 q87 q1495) (wd_20 _ _ _) rfl rfl ds_X3_isKey ⟨rfl, rfl⟩ ⟨Nat.le_of_ble_eq_true rfl, Nat.le_of_ble_eq_true rfl⟩ rfl rfl ⟨Nat.le_of_ble_eq_true rfl, Nat.le_of_ble_eq_true rfl⟩ (Nat.le_of_ble_eq_true rfl) rfl ?_
  refine g_if_eq C (pc := 10) (tgt := 22) dX3_finds_10 (by decide) (fun c_10 => ?_) (fun c_10 => ?_)
  · skip
    have c_10 : ¬ (isKey S k) := p2i_0.mp c_10
    refine g_iconst C (pc := 22) (v := 0) dX3_finds_22 (by decide) ?_
    exact g_zretD C (b2i_nb _) R dX3_finds_23 (Nat.le_refl _) (Nat.le_refl _) (by unfold m_finds; first | (rw [if_neg (by grind)]; rw [hje] at hb; simp only [← hb]; first | (simp [b2i, c_170]; done)) | (rw [if_pos (by grind)]; rfl)) (congrArg (fun z => wd K z h) (by unfold m_finds; first | (rw [if_neg (by grind), hS2, e_S_29]; rw [hje] at hb hv; rw [← hb, ← hv]) | (rw [if_pos (by grind)]))) rfl
  · skip
    have c_10 : (isKey S k) := p2i_n0.mp c_10
    refine g_iload_n C (pc := 13) dX3_finds_13 rfl ?_
    refine g_iconst C (pc := 14) (v := 0) dX3_finds_14 (by decide) ?_
    refine g_iconst C (pc := 15) (v := 1) dX3_finds_15 (by decide) ?_
    refine g_callSD C (pc := 16) [.int w, .int 0, .int 1] [] dX3_finds_16 (c_X3_isIn l D B (wd K (sI S 0 0) h) n w 0 1 ) (lw_S q1458 q1459 q87 q1460) ds_X3_isIn ⟨rfl, rfl⟩ ⟨Nat.le_of_ble_eq_true rfl, Nat.le_of_ble_eq_true rfl⟩ rfl rfl ⟨Nat.le_of_ble_eq_true rfl, Nat.le_of_ble_eq_true rfl⟩ (Nat.le_of_ble_eq_true rfl) rfl ?_
    refine g_if_ne C (pc := 19) (tgt := 24) dX3_finds_19 (by decide) (fun c_19 => ?_) (fun c_19 => ?_)
    · skip
      have c_19 : (isIn w 0 1) := p2i_n0.mp c_19
      refine g_aload_n C (pc := 24) dX3_finds_24 rfl rfl ?_
      refine g_aload_n C (pc := 25) dX3_finds_25 rfl rfl ?_
      refine m_geti C 1 (pc := 26) (v := S.1 1) dX3_finds_26 rfl q1194 rfl rfl ?_
      refine g_callVDv C (pc := 29) [.int (S.1 1)] [] dX3_finds_29 (c_X3_layHas l D B K (sI S 0 0) h n (S.1 1) (hS.setI 0 rfl)) (lw_V q1615 q1617 qs49 q87 q1618) (wd_20 _ _ _) rfl rfl ds_X3_layHas ⟨rfl, rfl⟩ ⟨Nat.le_of_ble_eq_true rfl, Nat.le_of_ble_eq_true rfl⟩ rfl rfl ⟨Nat.le_of_ble_eq_true rfl, Nat.le_of_ble_eq_true rfl⟩ (Nat.le_of_ble_eq_true rfl) rfl ?_
      refine G.nmS (fun S_29 e_S_29 => ?_)
      refine g_aload_n C (pc := 32) dX3_finds_32 rfl rfl ?_
      refine g_iconst C (pc := 33) (v := (-1)) dX3_finds_33 (by decide) ?_
      refine m_puti C 83 (pc := 34) dX3_finds_34 rfl q1276 rfl rfl rfl ?_
      refine g_aload_n C (pc := 37) dX3_finds_37 rfl rfl ?_
      refine g_iconst C (pc := 38) (v := 0) dX3_finds_38 (by decide) ?_
      refine m_puti C 84 (pc := 39) dX3_finds_39 rfl q1277 rfl rfl rfl ?_
      refine g_iconst C (pc := 42) (v := 1) dX3_finds_42 (by decide) ?_
      refine g_istore_n C (pc := 43) (L' := [some (.ref 20), some (.int k), some (.int w), some (.int 1), none, none]) dX3_finds_43 (by decide) rfl rfl ?_
      have hpw : 2 ^ (mN S 12) ≤ 2 ^ 12 := Nat.pow_le_pow_right (by decide) b12
      have hpw1 : 1 ≤ 2 ^ (mN S 12) := Nat.one_le_two_pow
      have loop_44 : ∀ (d44 : Nat) (j : Nat) (b : Int32) (v : Int32) (S2 : MS), (j ≤ 2 ^ (mN S 12) - 1) → (b = (findsU (fun s => harmS (layS S (S.1 1)) s k w) j).1) → (v = (findsU (fun s => harmS (layS S (S.1 1)) s k w) j).2) → (S2 = sI (sI S_29 83 b) 84 v) → 2 ^ (mN S 12) - 1 - j < d44 → G X D B (wd K S2 h) n 0 0 [some (.ref 20), some (.int k), some (.int w), some (.int (nI (j + 1))), none, none] 44 [] := by
        intro d44
        induction d44 with
        | zero =>
          intro j b v S2 hj hb hv hS2 hm44
          exact absurd hm44 (Nat.not_lt_zero _)
        | succ d44 ih44 =>
          intro j b v S2 hj hb hv hS2 hm44
          refine g_iload_n C (pc := 44) dX3_finds_44 rfl ?_
          refine g_iconst C (pc := 45) (v := 1) dX3_finds_45 (by decide) ?_
          refine g_aload_n C (pc := 46) dX3_finds_46 rfl rfl ?_
          refine m_geti C 12 (pc := 47) (v := nI (mN S 12)) dX3_finds_47 rfl q1205 rfl (by rw [hS2, e_S_29]; exact hS.c12.1) ?_
          refine g_ishl C (pc := 50) dX3_finds_50 ?_
          refine G.topc (x2 := nI (2 ^ (mN S 12))) (shl_h b12) ?_
          refine g_icmp_ge C (pc := 51) (tgt := 165) dX3_finds_51 (by decide) (fun c_51 => ?_) (fun c_51 => ?_)
          · skip
            have c_51 : (2 ^ (mN S 12)) ≤ (j + 1) := Nat.not_lt.mp fun q => c_51 ((nI_ltI (a := (j + 1)) (b := (2 ^ (mN S 12))) (by omega) (by omega)).mpr q)
            have hje : j = 2 ^ (mN S 12) - 1 := by omega
            refine g_aload_n C (pc := 165) dX3_finds_165 rfl rfl ?_
            refine m_geti C 83 (pc := 166) (v := b) dX3_finds_166 rfl q1276 rfl (by rw [hS2]; rfl) ?_
            refine g_iconst C (pc := 169) (v := (-1)) dX3_finds_169 (by decide) ?_
            refine g_icmp_eq C (pc := 170) (tgt := 177) dX3_finds_170 (by decide) (fun c_170 => ?_) (fun c_170 => ?_)
            · skip
              have c_170 : ((b) : Int32) = -1 := c_170
              refine g_iconst C (pc := 177) (v := 0) dX3_finds_177 (by decide) ?_
              exact g_zretD C (b2i_nb _) R dX3_finds_178 (Nat.le_refl _) (Nat.le_refl _) (by unfold m_finds; first | (rw [if_neg (by grind)]; rw [hje] at hb; simp only [← hb]; first | (simp [b2i, c_170]; done)) | (rw [if_pos (by grind)]; rfl)) (congrArg (fun z => wd K z h) (by unfold m_finds; first | (rw [if_neg (by grind), hS2, e_S_29]; rw [hje] at hb hv; rw [← hb, ← hv]) | (rw [if_pos (by grind)]))) rfl
            · skip
              have c_170 : ¬ ((b) : Int32) = -1 := c_170
              refine g_iconst C (pc := 173) (v := 1) dX3_finds_173 (by decide) ?_
              refine g_goto C (pc := 174) (tgt := 178) dX3_finds_174 (by decide) ?_
              exact g_zretD C (b2i_nb _) R dX3_finds_178 (Nat.le_refl _) (Nat.le_refl _) (by unfold m_finds; first | (rw [if_neg (by grind)]; rw [hje] at hb; simp only [← hb]; first | (simp [b2i, c_170]; done)) | (rw [if_pos (by grind)]; rfl)) (congrArg (fun z => wd K z h) (by unfold m_finds; first | (rw [if_neg (by grind), hS2, e_S_29]; rw [hje] at hb hv; rw [← hb, ← hv]) | (rw [if_pos (by grind)]))) rfl
          · skip
            have c_51 : (j + 1) < (2 ^ (mN S 12)) := (nI_ltI (a := (j + 1)) (b := (2 ^ (mN S 12))) (by omega) (by omega)).mp c_51
            refine g_aload_n C (pc := 54) dX3_finds_54 rfl rfl ?_
            refine m_geti C 83 (pc := 55) (v := b) dX3_finds_55 rfl q1276 rfl (by rw [hS2]; rfl) ?_
            refine g_iconst C (pc := 58) (v := (-1)) dX3_finds_58 (by decide) ?_
            refine g_icmp_ne C (pc := 59) (tgt := 66) dX3_finds_59 (by decide) (fun c_59 => ?_) (fun c_59 => ?_)
            · skip
              have c_59 : ¬ ((b) : Int32) = -1 := c_59
              refine g_iload_n C (pc := 66) dX3_finds_66 rfl ?_
              refine g_callSD C (pc := 67) [.int (nI (j + 1))] [] dX3_finds_67 (c_J5_bitCount l D B (wd K S2 h) n (nI (j + 1)) ) (lw_S q1542 q545 q98 q546) ds_J5_bitCount ⟨rfl, rfl⟩ ⟨Nat.le_of_ble_eq_true rfl, Nat.le_of_ble_eq_true rfl⟩ rfl rfl ⟨Nat.le_of_ble_eq_true rfl, Nat.le_of_ble_eq_true rfl⟩ (Nat.le_of_ble_eq_true rfl) rfl ?_
              refine g_aload_n C (pc := 70) dX3_finds_70 rfl rfl ?_
              refine m_geti C 83 (pc := 71) (v := b) dX3_finds_71 rfl q1276 rfl (by rw [hS2]; rfl) ?_
              refine g_callSD C (pc := 74) [.int b] [.int (bitc (nI (j + 1)))] dX3_finds_74 (c_J5_bitCount l D B (wd K S2 h) n b ) (lw_S q1542 q545 q98 q546) ds_J5_bitCount ⟨rfl, rfl⟩ ⟨Nat.le_of_ble_eq_true rfl, Nat.le_of_ble_eq_true rfl⟩ rfl rfl ⟨Nat.le_of_ble_eq_true rfl, Nat.le_of_ble_eq_true rfl⟩ (Nat.le_of_ble_eq_true rfl) rfl ?_
              refine g_isub C (pc := 77) dX3_finds_77 ?_
              refine G.topi (fun x_78 e_x_78 => ?_)
              have e_x_78 : x_78 = (bitc (nI (j + 1))) - (bitc b) := e_x_78
              refine g_istore C (pc := 78) (L' := [some (.ref 20), some (.int k), some (.int w), some (.int (nI (j + 1))), some (.int x_78), none]) dX3_finds_78 (by decide) rfl rfl ?_
              have hmr : fmore (nI (j + 1)) b = x_78 := by unfold fmore; first | (rw [if_pos c_59]; done) | (rw [if_neg c_59, e_x_78])
              refine g_iload C (pc := 80) dX3_finds_80 rfl ?_
              refine g_if_gt C (pc := 82) (tgt := 159) dX3_finds_82 (by decide) (fun c_82 => ?_) (fun c_82 => ?_)
              · skip
                obtain ⟨b2, v2, hst, hS3⟩ : ∃ b2 v2, findsU (fun s => harmS (layS S (S.1 1)) s k w) (j + 1) = (b2, v2) ∧ S2 = sI (sI S_29 83 b2) 84 v2 := by
                  have z1 : findsU (fun s => harmS (layS S (S.1 1)) s k w) (j + 1) = fstep (fun s => harmS (layS S (S.1 1)) s k w) (nI (j + 1)) (b, v) := by rw [hb, hv]; rfl
                  rw [z1]
                  first
                  | exact ⟨b, v, fstep_skip hmr (Or.inl c_82), hS2⟩
                  | exact ⟨b, v, fstep_skip hmr (Or.inr c_92), hS2⟩
                  | exact ⟨nI (j + 1), 1, fstep_new hmr (by decide) (by decide) c_92, by rw [hS2]; exact sI_tw2 S_29 83 84 b v _ _ (by decide)⟩
                  | exact ⟨nI (j + 1), 1, fstep_new hmr c_82 c_101 c_92, by rw [hS2]; exact sI_tw2 S_29 83 84 b v _ _ (by decide)⟩
                  | exact ⟨nI (j + 1), x_114, by rw [e_x_114]; exact fstep_set hmr c_82 c_101 c_92 e_x_140 c_151, by rw [hS2]; exact sI_tw2 S_29 83 84 b v _ _ (by decide)⟩
                  | exact ⟨b, x_114, by rw [e_x_114]; exact fstep_keep hmr c_82 c_101 c_92 e_x_140 c_151, by rw [hS2]; exact sI_tw S_29 83 84 b v _ (by decide)⟩
                refine g_iinc C (pc := 159) (v := nI ((j + 1) + 1)) (L' := [some (.ref 20), some (.int k), some (.int w), some (.int (nI ((j + 1) + 1))), some (.int x_78), none]) dX3_finds_159 rfl (nI_inc _) (by decide) rfl rfl ?_
                refine g_goto C (pc := 162) (tgt := 44) dX3_finds_162 (by decide) ?_
                refine G.mask [true, true, true, true, false, false] rfl ?_
                exact ih44 (j + 1) b2 v2 S2 (by omega) (by rw [hst]) (by rw [hst]) (hS3) (by omega)
              · skip
                refine g_aload_n C (pc := 85) dX3_finds_85 rfl rfl ?_
                refine g_iload_n C (pc := 86) dX3_finds_86 rfl ?_
                refine g_iload_n C (pc := 87) dX3_finds_87 rfl ?_
                refine g_iload_n C (pc := 88) dX3_finds_88 rfl ?_
                refine g_callVD C (pc := 89) [.int (nI (j + 1)), .int k, .int w] [] dX3_finds_89 (c_X3_harms l D B K S2 h n (nI (j + 1)) k w (by rw [hS2, e_S_29]; exact ((hS.setI (f := 0) 0 rfl).setI (f := 83) b rfl).setI (f := 84) v rfl)) (lw_V q1843 q1845 qs79 q87 q1846) (wd_20 _ _ _) rfl rfl ds_X3_harms ⟨rfl, rfl⟩ ⟨Nat.le_of_ble_eq_true rfl, Nat.le_of_ble_eq_true rfl⟩ rfl rfl ⟨Nat.le_of_ble_eq_true rfl, Nat.le_of_ble_eq_true rfl⟩ (Nat.le_of_ble_eq_true rfl) rfl ?_
                refine g_if_ne C (pc := 92) (tgt := 98) dX3_finds_92 (by decide) (fun c_92 => ?_) (fun c_92 => ?_)
                · skip
                  have c_92 : (harmS S2 (nI (j + 1)) k w) = true := b2i_n0.mp c_92
                  have c_92 : harmS (layS S (S.1 1)) (nI (j + 1)) k w = true := by rw [hS2, e_S_29] at c_92; exact c_92
                  refine g_aload_n C (pc := 98) dX3_finds_98 rfl rfl ?_
                  refine g_iload C (pc := 99) dX3_finds_99 rfl ?_
                  refine g_if_ge C (pc := 101) (tgt := 108) dX3_finds_101 (by decide) (fun c_101 => ?_) (fun c_101 => ?_)
                  · skip
                    refine g_aload_n C (pc := 108) dX3_finds_108 rfl rfl ?_
                    refine m_geti C 84 (pc := 109) (v := v) dX3_finds_109 rfl q1277 rfl (by rw [hS2]; rfl) ?_
                    refine g_iconst C (pc := 112) (v := 1) dX3_finds_112 (by decide) ?_
                    refine g_iadd C (pc := 113) dX3_finds_113 ?_
                    refine G.topi (fun x_114 e_x_114 => ?_)
                    have e_x_114 : x_114 = v + 1 := e_x_114
                    refine m_puti C 84 (pc := 114) dX3_finds_114 rfl q1277 rfl rfl rfl ?_
                    refine g_iload C (pc := 117) dX3_finds_117 rfl ?_
                    refine g_if_ge C (pc := 119) (tgt := 126) dX3_finds_119 (by decide) (fun c_119 => ?_) (fun c_119 => absurd c_119 c_101)
                    refine g_iload_n C (pc := 126) dX3_finds_126 rfl ?_
                    refine g_aload_n C (pc := 127) dX3_finds_127 rfl rfl ?_
                    refine m_geti C 83 (pc := 128) (v := b) dX3_finds_128 rfl q1276 rfl (by rw [hS2]; rfl) ?_
                    refine g_ixor C (pc := 131) dX3_finds_131 ?_
                    refine g_iload_n C (pc := 132) dX3_finds_132 rfl ?_
                    refine g_aload_n C (pc := 133) dX3_finds_133 rfl rfl ?_
                    refine m_geti C 83 (pc := 134) (v := b) dX3_finds_134 rfl q1276 rfl (by rw [hS2]; rfl) ?_
                    refine g_ixor C (pc := 137) dX3_finds_137 ?_
                    refine g_ineg C (pc := 138) dX3_finds_138 ?_
                    refine g_iand C (pc := 139) dX3_finds_139 ?_
                    refine G.topi (fun x_140 e_x_140 => ?_)
                    have e_x_140 : x_140 = ((nI (j + 1)) ^^^ b) &&& (-((nI (j + 1)) ^^^ b)) := e_x_140
                    refine g_istore C (pc := 140) (L' := [some (.ref 20), some (.int k), some (.int w), some (.int (nI (j + 1))), some (.int x_78), some (.int x_140)]) dX3_finds_140 (by decide) rfl rfl ?_
                    refine g_iload C (pc := 142) dX3_finds_142 rfl ?_
                    refine g_if_lt C (pc := 144) (tgt := 154) dX3_finds_144 (by decide) (fun c_144 => absurd c_144 c_101) (fun c_144 => ?_)
                    refine g_iload_n C (pc := 147) dX3_finds_147 rfl ?_
                    refine g_iload C (pc := 148) dX3_finds_148 rfl ?_
                    refine g_iand C (pc := 150) dX3_finds_150 ?_
                    refine g_if_eq C (pc := 151) (tgt := 159) dX3_finds_151 (by decide) (fun c_151 => ?_) (fun c_151 => ?_)
                    · skip
                      obtain ⟨b2, v2, hst, hS3⟩ : ∃ b2 v2, findsU (fun s => harmS (layS S (S.1 1)) s k w) (j + 1) = (b2, v2) ∧ (sI S2 84 x_114) = sI (sI S_29 83 b2) 84 v2 := by
                        have z1 : findsU (fun s => harmS (layS S (S.1 1)) s k w) (j + 1) = fstep (fun s => harmS (layS S (S.1 1)) s k w) (nI (j + 1)) (b, v) := by rw [hb, hv]; rfl
                        rw [z1]
                        first
                        | exact ⟨b, v, fstep_skip hmr (Or.inl c_82), hS2⟩
                        | exact ⟨b, v, fstep_skip hmr (Or.inr c_92), hS2⟩
                        | exact ⟨nI (j + 1), 1, fstep_new hmr (by decide) (by decide) c_92, by rw [hS2]; exact sI_tw2 S_29 83 84 b v _ _ (by decide)⟩
                        | exact ⟨nI (j + 1), 1, fstep_new hmr c_82 c_101 c_92, by rw [hS2]; exact sI_tw2 S_29 83 84 b v _ _ (by decide)⟩
                        | exact ⟨nI (j + 1), x_114, by rw [e_x_114]; exact fstep_set hmr c_82 c_101 c_92 e_x_140 c_151, by rw [hS2]; exact sI_tw2 S_29 83 84 b v _ _ (by decide)⟩
                        | exact ⟨b, x_114, by rw [e_x_114]; exact fstep_keep hmr c_82 c_101 c_92 e_x_140 c_151, by rw [hS2]; exact sI_tw S_29 83 84 b v _ (by decide)⟩
                      refine g_iinc C (pc := 159) (v := nI ((j + 1) + 1)) (L' := [some (.ref 20), some (.int k), some (.int w), some (.int (nI ((j + 1) + 1))), some (.int x_78), some (.int x_140)]) dX3_finds_159 rfl (nI_inc _) (by decide) rfl rfl ?_
                      refine g_goto C (pc := 162) (tgt := 44) dX3_finds_162 (by decide) ?_
                      refine G.mask [true, true, true, true, false, false] rfl ?_
                      exact ih44 (j + 1) b2 v2 (sI S2 84 x_114) (by omega) (by rw [hst]) (by rw [hst]) (hS3) (by omega)
                    · skip
                      refine g_aload_n C (pc := 154) dX3_finds_154 rfl rfl ?_
                      refine g_iload_n C (pc := 155) dX3_finds_155 rfl ?_
                      refine m_puti C 83 (pc := 156) dX3_finds_156 rfl q1276 rfl rfl rfl ?_
                      obtain ⟨b2, v2, hst, hS3⟩ : ∃ b2 v2, findsU (fun s => harmS (layS S (S.1 1)) s k w) (j + 1) = (b2, v2) ∧ (sI (sI S2 84 x_114) 83 (nI (j + 1))) = sI (sI S_29 83 b2) 84 v2 := by
                        have z1 : findsU (fun s => harmS (layS S (S.1 1)) s k w) (j + 1) = fstep (fun s => harmS (layS S (S.1 1)) s k w) (nI (j + 1)) (b, v) := by rw [hb, hv]; rfl
                        rw [z1]
                        first
                        | exact ⟨b, v, fstep_skip hmr (Or.inl c_82), hS2⟩
                        | exact ⟨b, v, fstep_skip hmr (Or.inr c_92), hS2⟩
                        | exact ⟨nI (j + 1), 1, fstep_new hmr (by decide) (by decide) c_92, by rw [hS2]; exact sI_tw2 S_29 83 84 b v _ _ (by decide)⟩
                        | exact ⟨nI (j + 1), 1, fstep_new hmr c_82 c_101 c_92, by rw [hS2]; exact sI_tw2 S_29 83 84 b v _ _ (by decide)⟩
                        | exact ⟨nI (j + 1), x_114, by rw [e_x_114]; exact fstep_set hmr c_82 c_101 c_92 e_x_140 c_151, by rw [hS2]; exact sI_tw2 S_29 83 84 b v _ _ (by decide)⟩
                        | exact ⟨b, x_114, by rw [e_x_114]; exact fstep_keep hmr c_82 c_101 c_92 e_x_140 c_151, by rw [hS2]; exact sI_tw S_29 83 84 b v _ (by decide)⟩
                      refine g_iinc C (pc := 159) (v := nI ((j + 1) + 1)) (L' := [some (.ref 20), some (.int k), some (.int w), some (.int (nI ((j + 1) + 1))), some (.int x_78), some (.int x_140)]) dX3_finds_159 rfl (nI_inc _) (by decide) rfl rfl ?_
                      refine g_goto C (pc := 162) (tgt := 44) dX3_finds_162 (by decide) ?_
                      refine G.mask [true, true, true, true, false, false] rfl ?_
                      exact ih44 (j + 1) b2 v2 (sI (sI S2 84 x_114) 83 (nI (j + 1))) (by omega) (by rw [hst]) (by rw [hst]) (hS3) (by omega)
                  · skip
                    refine g_iconst C (pc := 104) (v := 1) dX3_finds_104 (by decide) ?_
                    refine g_goto C (pc := 105) (tgt := 114) dX3_finds_105 (by decide) ?_
                    refine m_puti C 84 (pc := 114) dX3_finds_114 rfl q1277 rfl rfl rfl ?_
                    refine g_iload C (pc := 117) dX3_finds_117 rfl ?_
                    refine g_if_ge C (pc := 119) (tgt := 126) dX3_finds_119 (by decide) (fun c_119 => absurd c_101 c_119) (fun c_119 => ?_)
                    refine g_iconst C (pc := 122) (v := 0) dX3_finds_122 (by decide) ?_
                    refine g_goto C (pc := 123) (tgt := 140) dX3_finds_123 (by decide) ?_
                    refine g_istore C (pc := 140) (L' := [some (.ref 20), some (.int k), some (.int w), some (.int (nI (j + 1))), some (.int x_78), some (.int 0)]) dX3_finds_140 (by decide) rfl rfl ?_
                    refine g_iload C (pc := 142) dX3_finds_142 rfl ?_
                    refine g_if_lt C (pc := 144) (tgt := 154) dX3_finds_144 (by decide) (fun c_144 => ?_) (fun c_144 => absurd c_101 c_144)
                    refine g_aload_n C (pc := 154) dX3_finds_154 rfl rfl ?_
                    refine g_iload_n C (pc := 155) dX3_finds_155 rfl ?_
                    refine m_puti C 83 (pc := 156) dX3_finds_156 rfl q1276 rfl rfl rfl ?_
                    obtain ⟨b2, v2, hst, hS3⟩ : ∃ b2 v2, findsU (fun s => harmS (layS S (S.1 1)) s k w) (j + 1) = (b2, v2) ∧ (sI (sI S2 84 1) 83 (nI (j + 1))) = sI (sI S_29 83 b2) 84 v2 := by
                      have z1 : findsU (fun s => harmS (layS S (S.1 1)) s k w) (j + 1) = fstep (fun s => harmS (layS S (S.1 1)) s k w) (nI (j + 1)) (b, v) := by rw [hb, hv]; rfl
                      rw [z1]
                      first
                      | exact ⟨b, v, fstep_skip hmr (Or.inl c_82), hS2⟩
                      | exact ⟨b, v, fstep_skip hmr (Or.inr c_92), hS2⟩
                      | exact ⟨nI (j + 1), 1, fstep_new hmr (by decide) (by decide) c_92, by rw [hS2]; exact sI_tw2 S_29 83 84 b v _ _ (by decide)⟩
                      | exact ⟨nI (j + 1), 1, fstep_new hmr c_82 c_101 c_92, by rw [hS2]; exact sI_tw2 S_29 83 84 b v _ _ (by decide)⟩
                      | exact ⟨nI (j + 1), x_114, by rw [e_x_114]; exact fstep_set hmr c_82 c_101 c_92 e_x_140 c_151, by rw [hS2]; exact sI_tw2 S_29 83 84 b v _ _ (by decide)⟩
                      | exact ⟨b, x_114, by rw [e_x_114]; exact fstep_keep hmr c_82 c_101 c_92 e_x_140 c_151, by rw [hS2]; exact sI_tw S_29 83 84 b v _ (by decide)⟩
                    refine g_iinc C (pc := 159) (v := nI ((j + 1) + 1)) (L' := [some (.ref 20), some (.int k), some (.int w), some (.int (nI ((j + 1) + 1))), some (.int x_78), some (.int 0)]) dX3_finds_159 rfl (nI_inc _) (by decide) rfl rfl ?_
                    refine g_goto C (pc := 162) (tgt := 44) dX3_finds_162 (by decide) ?_
                    refine G.mask [true, true, true, true, false, false] rfl ?_
                    exact ih44 (j + 1) b2 v2 (sI (sI S2 84 1) 83 (nI (j + 1))) (by omega) (by rw [hst]) (by rw [hst]) (hS3) (by omega)
                · skip
                  have c_92 : ¬ (harmS S2 (nI (j + 1)) k w) = true := b2i_0.mp c_92
                  have c_92 : ¬ harmS (layS S (S.1 1)) (nI (j + 1)) k w = true := by rw [hS2, e_S_29] at c_92; exact c_92
                  refine g_goto C (pc := 95) (tgt := 159) dX3_finds_95 (by decide) ?_
                  obtain ⟨b2, v2, hst, hS3⟩ : ∃ b2 v2, findsU (fun s => harmS (layS S (S.1 1)) s k w) (j + 1) = (b2, v2) ∧ S2 = sI (sI S_29 83 b2) 84 v2 := by
                    have z1 : findsU (fun s => harmS (layS S (S.1 1)) s k w) (j + 1) = fstep (fun s => harmS (layS S (S.1 1)) s k w) (nI (j + 1)) (b, v) := by rw [hb, hv]; rfl
                    rw [z1]
                    first
                    | exact ⟨b, v, fstep_skip hmr (Or.inl c_82), hS2⟩
                    | exact ⟨b, v, fstep_skip hmr (Or.inr c_92), hS2⟩
                    | exact ⟨nI (j + 1), 1, fstep_new hmr (by decide) (by decide) c_92, by rw [hS2]; exact sI_tw2 S_29 83 84 b v _ _ (by decide)⟩
                    | exact ⟨nI (j + 1), 1, fstep_new hmr c_82 c_101 c_92, by rw [hS2]; exact sI_tw2 S_29 83 84 b v _ _ (by decide)⟩
                    | exact ⟨nI (j + 1), x_114, by rw [e_x_114]; exact fstep_set hmr c_82 c_101 c_92 e_x_140 c_151, by rw [hS2]; exact sI_tw2 S_29 83 84 b v _ _ (by decide)⟩
                    | exact ⟨b, x_114, by rw [e_x_114]; exact fstep_keep hmr c_82 c_101 c_92 e_x_140 c_151, by rw [hS2]; exact sI_tw S_29 83 84 b v _ (by decide)⟩
                  refine g_iinc C (pc := 159) (v := nI ((j + 1) + 1)) (L' := [some (.ref 20), some (.int k), some (.int w), some (.int (nI ((j + 1) + 1))), some (.int x_78), none]) dX3_finds_159 rfl (nI_inc _) (by decide) rfl rfl ?_
                  refine g_goto C (pc := 162) (tgt := 44) dX3_finds_162 (by decide) ?_
                  refine G.mask [true, true, true, true, false, false] rfl ?_
                  exact ih44 (j + 1) b2 v2 S2 (by omega) (by rw [hst]) (by rw [hst]) (hS3) (by omega)
            · skip
              have c_59 : ((b) : Int32) = -1 := c_59
              refine g_iconst C (pc := 62) (v := (-1)) dX3_finds_62 (by decide) ?_
              refine g_goto C (pc := 63) (tgt := 78) dX3_finds_63 (by decide) ?_
              refine g_istore C (pc := 78) (L' := [some (.ref 20), some (.int k), some (.int w), some (.int (nI (j + 1))), some (.int (-1)), none]) dX3_finds_78 (by decide) rfl rfl ?_
              have hmr : fmore (nI (j + 1)) b = (-1) := by unfold fmore; first | (rw [if_pos c_59]; done) | (rw [if_neg c_59, e_x_78])
              refine g_iload C (pc := 80) dX3_finds_80 rfl ?_
              refine g_if_gt C (pc := 82) (tgt := 159) dX3_finds_82 (by decide) (fun c_82 => absurd c_82 (by decide)) (fun c_82 => ?_)
              refine g_aload_n C (pc := 85) dX3_finds_85 rfl rfl ?_
              refine g_iload_n C (pc := 86) dX3_finds_86 rfl ?_
              refine g_iload_n C (pc := 87) dX3_finds_87 rfl ?_
              refine g_iload_n C (pc := 88) dX3_finds_88 rfl ?_
              refine g_callVD C (pc := 89) [.int (nI (j + 1)), .int k, .int w] [] dX3_finds_89 (c_X3_harms l D B K S2 h n (nI (j + 1)) k w (by rw [hS2, e_S_29]; exact ((hS.setI (f := 0) 0 rfl).setI (f := 83) b rfl).setI (f := 84) v rfl)) (lw_V q1843 q1845 qs79 q87 q1846) (wd_20 _ _ _) rfl rfl ds_X3_harms ⟨rfl, rfl⟩ ⟨Nat.le_of_ble_eq_true rfl, Nat.le_of_ble_eq_true rfl⟩ rfl rfl ⟨Nat.le_of_ble_eq_true rfl, Nat.le_of_ble_eq_true rfl⟩ (Nat.le_of_ble_eq_true rfl) rfl ?_
              refine g_if_ne C (pc := 92) (tgt := 98) dX3_finds_92 (by decide) (fun c_92 => ?_) (fun c_92 => ?_)
              · skip
                have c_92 : (harmS S2 (nI (j + 1)) k w) = true := b2i_n0.mp c_92
                have c_92 : harmS (layS S (S.1 1)) (nI (j + 1)) k w = true := by rw [hS2, e_S_29] at c_92; exact c_92
                refine g_aload_n C (pc := 98) dX3_finds_98 rfl rfl ?_
                refine g_iload C (pc := 99) dX3_finds_99 rfl ?_
                refine g_if_ge C (pc := 101) (tgt := 108) dX3_finds_101 (by decide) (fun c_101 => absurd c_101 (by decide)) (fun c_101 => ?_)
                refine g_iconst C (pc := 104) (v := 1) dX3_finds_104 (by decide) ?_
                refine g_goto C (pc := 105) (tgt := 114) dX3_finds_105 (by decide) ?_
                refine m_puti C 84 (pc := 114) dX3_finds_114 rfl q1277 rfl rfl rfl ?_
                refine g_iload C (pc := 117) dX3_finds_117 rfl ?_
                refine g_if_ge C (pc := 119) (tgt := 126) dX3_finds_119 (by decide) (fun c_119 => absurd c_119 (by decide)) (fun c_119 => ?_)
                refine g_iconst C (pc := 122) (v := 0) dX3_finds_122 (by decide) ?_
                refine g_goto C (pc := 123) (tgt := 140) dX3_finds_123 (by decide) ?_
                refine g_istore C (pc := 140) (L' := [some (.ref 20), some (.int k), some (.int w), some (.int (nI (j + 1))), some (.int (-1)), some (.int 0)]) dX3_finds_140 (by decide) rfl rfl ?_
                refine g_iload C (pc := 142) dX3_finds_142 rfl ?_
                refine g_if_lt C (pc := 144) (tgt := 154) dX3_finds_144 (by decide) (fun c_144 => ?_) (fun c_144 => absurd c_144 (by decide))
                refine g_aload_n C (pc := 154) dX3_finds_154 rfl rfl ?_
                refine g_iload_n C (pc := 155) dX3_finds_155 rfl ?_
                refine m_puti C 83 (pc := 156) dX3_finds_156 rfl q1276 rfl rfl rfl ?_
                obtain ⟨b2, v2, hst, hS3⟩ : ∃ b2 v2, findsU (fun s => harmS (layS S (S.1 1)) s k w) (j + 1) = (b2, v2) ∧ (sI (sI S2 84 1) 83 (nI (j + 1))) = sI (sI S_29 83 b2) 84 v2 := by
                  have z1 : findsU (fun s => harmS (layS S (S.1 1)) s k w) (j + 1) = fstep (fun s => harmS (layS S (S.1 1)) s k w) (nI (j + 1)) (b, v) := by rw [hb, hv]; rfl
                  rw [z1]
                  first
                  | exact ⟨b, v, fstep_skip hmr (Or.inl c_82), hS2⟩
                  | exact ⟨b, v, fstep_skip hmr (Or.inr c_92), hS2⟩
                  | exact ⟨nI (j + 1), 1, fstep_new hmr (by decide) (by decide) c_92, by rw [hS2]; exact sI_tw2 S_29 83 84 b v _ _ (by decide)⟩
                  | exact ⟨nI (j + 1), 1, fstep_new hmr c_82 c_101 c_92, by rw [hS2]; exact sI_tw2 S_29 83 84 b v _ _ (by decide)⟩
                  | exact ⟨nI (j + 1), x_114, by rw [e_x_114]; exact fstep_set hmr c_82 c_101 c_92 e_x_140 c_151, by rw [hS2]; exact sI_tw2 S_29 83 84 b v _ _ (by decide)⟩
                  | exact ⟨b, x_114, by rw [e_x_114]; exact fstep_keep hmr c_82 c_101 c_92 e_x_140 c_151, by rw [hS2]; exact sI_tw S_29 83 84 b v _ (by decide)⟩
                refine g_iinc C (pc := 159) (v := nI ((j + 1) + 1)) (L' := [some (.ref 20), some (.int k), some (.int w), some (.int (nI ((j + 1) + 1))), some (.int (-1)), some (.int 0)]) dX3_finds_159 rfl (nI_inc _) (by decide) rfl rfl ?_
                refine g_goto C (pc := 162) (tgt := 44) dX3_finds_162 (by decide) ?_
                refine G.mask [true, true, true, true, false, false] rfl ?_
                exact ih44 (j + 1) b2 v2 (sI (sI S2 84 1) 83 (nI (j + 1))) (by omega) (by rw [hst]) (by rw [hst]) (hS3) (by omega)
              · skip
                have c_92 : ¬ (harmS S2 (nI (j + 1)) k w) = true := b2i_0.mp c_92
                have c_92 : ¬ harmS (layS S (S.1 1)) (nI (j + 1)) k w = true := by rw [hS2, e_S_29] at c_92; exact c_92
                refine g_goto C (pc := 95) (tgt := 159) dX3_finds_95 (by decide) ?_
                obtain ⟨b2, v2, hst, hS3⟩ : ∃ b2 v2, findsU (fun s => harmS (layS S (S.1 1)) s k w) (j + 1) = (b2, v2) ∧ S2 = sI (sI S_29 83 b2) 84 v2 := by
                  have z1 : findsU (fun s => harmS (layS S (S.1 1)) s k w) (j + 1) = fstep (fun s => harmS (layS S (S.1 1)) s k w) (nI (j + 1)) (b, v) := by rw [hb, hv]; rfl
                  rw [z1]
                  first
                  | exact ⟨b, v, fstep_skip hmr (Or.inl c_82), hS2⟩
                  | exact ⟨b, v, fstep_skip hmr (Or.inr c_92), hS2⟩
                  | exact ⟨nI (j + 1), 1, fstep_new hmr (by decide) (by decide) c_92, by rw [hS2]; exact sI_tw2 S_29 83 84 b v _ _ (by decide)⟩
                  | exact ⟨nI (j + 1), 1, fstep_new hmr c_82 c_101 c_92, by rw [hS2]; exact sI_tw2 S_29 83 84 b v _ _ (by decide)⟩
                  | exact ⟨nI (j + 1), x_114, by rw [e_x_114]; exact fstep_set hmr c_82 c_101 c_92 e_x_140 c_151, by rw [hS2]; exact sI_tw2 S_29 83 84 b v _ _ (by decide)⟩
                  | exact ⟨b, x_114, by rw [e_x_114]; exact fstep_keep hmr c_82 c_101 c_92 e_x_140 c_151, by rw [hS2]; exact sI_tw S_29 83 84 b v _ (by decide)⟩
                refine g_iinc C (pc := 159) (v := nI ((j + 1) + 1)) (L' := [some (.ref 20), some (.int k), some (.int w), some (.int (nI ((j + 1) + 1))), some (.int (-1)), none]) dX3_finds_159 rfl (nI_inc _) (by decide) rfl rfl ?_
                refine g_goto C (pc := 162) (tgt := 44) dX3_finds_162 (by decide) ?_
                refine G.mask [true, true, true, true, false, false] rfl ?_
                exact ih44 (j + 1) b2 v2 S2 (by omega) (by rw [hst]) (by rw [hst]) (hS3) (by omega)
      refine G.mask [true, true, true, true, false, false] rfl ?_
      exact loop_44 _ 0 (-1) 0 (sI (sI S_29 83 (-1)) 84 0) (Nat.zero_le _) (rfl) (rfl) (rfl) (Nat.lt_succ_self _)
    · skip
      have c_19 : ¬ (isIn w 0 1) := p2i_0.mp c_19
      refine g_iconst C (pc := 22) (v := 0) dX3_finds_22 (by decide) ?_
      exact g_zretD C (b2i_nb _) R dX3_finds_23 (Nat.le_refl _) (Nat.le_refl _) (by unfold m_finds; first | (rw [if_neg (by grind)]; rw [hje] at hb; simp only [← hb]; first | (simp [b2i, c_170]; done)) | (rw [if_pos (by grind)]; rfl)) (congrArg (fun z => wd K z h) (by unfold m_finds; first | (rw [if_neg (by grind), hS2, e_S_29]; rw [hje] at hb hv; rw [← hb, ← hv]) | (rw [if_pos (by grind)]))) rfl
theorem ds_X3_finds : yX3_finds.cls ≠ "java/lang/invoke/MethodHandle" ∧ yX3_finds.cls ≠ "java/lang/invoke/VarHandle" ∧ (parseMethodDescriptor yX3_finds.desc).map (fun d => d.parameters.length) = some 2 := by decide +kernel
set_option maxHeartbeats 4000000 in
set_option maxRecDepth 100000 in
theorem c_X3_least (l : Launch) (D : gD) (B : Nat × Nat) (K : KS) (S : MS) (h : gHp) (n : Nat) (k : Int32) (w : Int32) (hS : MOK S) : Con l yX3_least (ws_ yX3_least cX3_least 3 (some .int)) ({ frames := 4, cells := 0, slots := 0, locals := 100 }) D B [.ref 20, .int k, .int w] (wd K S h) n (gdt (some (.int ((m_least S k w).2))) (wd K ((m_least S k w).1) h) n) 0 0 := by
  have b12 := hS.c12.2
  have b13 := hS.c13.2
  have b14 := hS.c14.2
  have b16 := hS.c16.2
  have b29 := hS.c29.2
  have b30 := hS.c30.2
  have b31 := hS.c31.2
  have b48 := hS.c48.2
  have b49 := hS.c49.2
  have b50 := hS.c50.2
  have b51 := hS.c51.2
  have b77 := hS.c77.2
  have b78 := hS.c78.2
  have b79 := hS.c79.2
  have b82 := hS.c82.2
  refine Con.begin [some (.ref 20), some (.int k), some (.int w)] rfl rfl (Nat.le_of_ble_eq_true rfl) rfl rfl (fun X C R => ?_)
  refine g_aload_n C (pc := 0) dX3_least_0 rfl rfl ?_
  refine g_iload_n C (pc := 1) dX3_least_1 rfl ?_
  refine g_iload_n C (pc := 2) dX3_least_2 rfl ?_
  refine g_callVD C (pc := 3) [.int k, .int w] [] dX3_least_3 (c_X3_finds l D B K S h n k w hS) (lw_V q1839 q1841 qs78 q87 q1842) (wd_20 _ _ _) rfl rfl ds_X3_finds ⟨rfl, rfl⟩ ⟨Nat.le_of_ble_eq_true rfl, Nat.le_of_ble_eq_true rfl⟩ rfl rfl ⟨Nat.le_of_ble_eq_true rfl, Nat.le_of_ble_eq_true rfl⟩ (Nat.le_of_ble_eq_true rfl) rfl ?_
  refine G.nmS (fun S_3 e_S_3 => ?_)
  refine g_if_eq C (pc := 6) (tgt := 19) dX3_least_6 (by decide) (fun c_6 => ?_) (fun c_6 => ?_)
  · skip
    have c_6 : ¬ ((m_finds S k w).2) = true := b2i_0.mp c_6
    refine g_iconst C (pc := 19) (v := (-1)) dX3_least_19 (by decide) ?_
    exact g_iretD C R dX3_least_20 (Nat.le_refl _) (Nat.le_refl _) (by unfold m_least; first | (rw [e_S_3]; show _ = (if _ then _ else _); first | (rw [if_pos (by assumption)]; done) | (rw [if_neg (by assumption)]; done)) | (show _ = (if _ then _ else _); first | (rw [if_pos (by assumption)]; done) | (rw [if_neg (by assumption)]; done))) (congrArg (fun z => wd K z h) (e_S_3)) rfl
  · skip
    have c_6 : ((m_finds S k w).2) = true := b2i_n0.mp c_6
    refine g_aload_n C (pc := 9) dX3_least_9 rfl rfl ?_
    refine m_geti C 83 (pc := 10) (v := S_3.1 83) dX3_least_10 rfl q1276 rfl rfl ?_
    refine g_callSD C (pc := 13) [.int (S_3.1 83)] [] dX3_least_13 (c_J5_bitCount l D B (wd K S_3 h) n (S_3.1 83) ) (lw_S q1542 q545 q98 q546) ds_J5_bitCount ⟨rfl, rfl⟩ ⟨Nat.le_of_ble_eq_true rfl, Nat.le_of_ble_eq_true rfl⟩ rfl rfl ⟨Nat.le_of_ble_eq_true rfl, Nat.le_of_ble_eq_true rfl⟩ (Nat.le_of_ble_eq_true rfl) rfl ?_
    refine g_goto C (pc := 16) (tgt := 20) dX3_least_16 (by decide) ?_
    exact g_iretD C R dX3_least_20 (Nat.le_refl _) (Nat.le_refl _) (by unfold m_least; first | (rw [e_S_3]; show _ = (if _ then _ else _); first | (rw [if_pos (by assumption)]; done) | (rw [if_neg (by assumption)]; done)) | (show _ = (if _ then _ else _); first | (rw [if_pos (by assumption)]; done) | (rw [if_neg (by assumption)]; done))) (congrArg (fun z => wd K z h) (e_S_3)) rfl
theorem ds_X3_least : yX3_least.cls ≠ "java/lang/invoke/MethodHandle" ∧ yX3_least.cls ≠ "java/lang/invoke/VarHandle" ∧ (parseMethodDescriptor yX3_least.desc).map (fun d => d.parameters.length) = some 2 := by decide +kernel
set_option maxHeartbeats 4000000 in
set_option maxRecDepth 100000 in
theorem c_X3_ways (l : Launch) (D : gD) (B : Nat × Nat) (K : KS) (S : MS) (h : gHp) (n : Nat) (k : Int32) (w : Int32) (hS : MOK S) : Con l yX3_ways (ws_ yX3_ways cX3_ways 3 (some .int)) ({ frames := 4, cells := 0, slots := 0, locals := 100 }) D B [.ref 20, .int k, .int w] (wd K S h) n (gdt (some (.int ((m_ways S k w).2))) (wd K ((m_ways S k w).1) h) n) 0 0 := by
  have b12 := hS.c12.2
  have b13 := hS.c13.2
  have b14 := hS.c14.2
  have b16 := hS.c16.2
  have b29 := hS.c29.2
  have b30 := hS.c30.2
  have b31 := hS.c31.2
  have b48 := hS.c48.2
  have b49 := hS.c49.2
  have b50 := hS.c50.2
  have b51 := hS.c51.2
  have b77 := hS.c77.2
  have b78 := hS.c78.2
  have b79 := hS.c79.2
  have b82 := hS.c82.2
  refine Con.begin [some (.ref 20), some (.int k), some (.int w)] rfl rfl (Nat.le_of_ble_eq_true rfl) rfl rfl (fun X C R => ?_)
  refine g_aload_n C (pc := 0) dX3_ways_0 rfl rfl ?_
  refine g_iload_n C (pc := 1) dX3_ways_1 rfl ?_
  refine g_iload_n C (pc := 2) dX3_ways_2 rfl ?_
  refine g_callVD C (pc := 3) [.int k, .int w] [] dX3_ways_3 (c_X3_finds l D B K S h n k w hS) (lw_V q1839 q1841 qs78 q87 q1842) (wd_20 _ _ _) rfl rfl ds_X3_finds ⟨rfl, rfl⟩ ⟨Nat.le_of_ble_eq_true rfl, Nat.le_of_ble_eq_true rfl⟩ rfl rfl ⟨Nat.le_of_ble_eq_true rfl, Nat.le_of_ble_eq_true rfl⟩ (Nat.le_of_ble_eq_true rfl) rfl ?_
  refine G.nmS (fun S_3 e_S_3 => ?_)
  refine g_if_eq C (pc := 6) (tgt := 16) dX3_ways_6 (by decide) (fun c_6 => ?_) (fun c_6 => ?_)
  · skip
    have c_6 : ¬ ((m_finds S k w).2) = true := b2i_0.mp c_6
    refine g_iconst C (pc := 16) (v := (-1)) dX3_ways_16 (by decide) ?_
    exact g_iretD C R dX3_ways_17 (Nat.le_refl _) (Nat.le_refl _) (by unfold m_ways; first | (rw [e_S_3]; show _ = (if _ then _ else _); first | (rw [if_pos (by assumption)]; done) | (rw [if_neg (by assumption)]; done)) | (show _ = (if _ then _ else _); first | (rw [if_pos (by assumption)]; done) | (rw [if_neg (by assumption)]; done))) (congrArg (fun z => wd K z h) (e_S_3)) rfl
  · skip
    have c_6 : ((m_finds S k w).2) = true := b2i_n0.mp c_6
    refine g_aload_n C (pc := 9) dX3_ways_9 rfl rfl ?_
    refine m_geti C 84 (pc := 10) (v := S_3.1 84) dX3_ways_10 rfl q1277 rfl rfl ?_
    refine g_goto C (pc := 13) (tgt := 17) dX3_ways_13 (by decide) ?_
    exact g_iretD C R dX3_ways_17 (Nat.le_refl _) (Nat.le_refl _) (by unfold m_ways; first | (rw [e_S_3]; show _ = (if _ then _ else _); first | (rw [if_pos (by assumption)]; done) | (rw [if_neg (by assumption)]; done)) | (show _ = (if _ then _ else _); first | (rw [if_pos (by assumption)]; done) | (rw [if_neg (by assumption)]; done))) (congrArg (fun z => wd K z h) (e_S_3)) rfl
theorem ds_X3_ways : yX3_ways.cls ≠ "java/lang/invoke/MethodHandle" ∧ yX3_ways.cls ≠ "java/lang/invoke/VarHandle" ∧ (parseMethodDescriptor yX3_ways.desc).map (fun d => d.parameters.length) = some 2 := by decide +kernel
set_option maxHeartbeats 4000000 in
set_option maxRecDepth 100000 in
theorem c_X3_first (l : Launch) (D : gD) (B : Nat × Nat) (K : KS) (S : MS) (h : gHp) (n : Nat) (k : Int32) (w : Int32) (hS : MOK S) : Con l yX3_first (ws_ yX3_first cX3_first 3 (some .int)) ({ frames := 4, cells := 0, slots := 0, locals := 100 }) D B [.ref 20, .int k, .int w] (wd K S h) n (gdt (some (.int ((m_first S k w).2))) (wd K ((m_first S k w).1) h) n) 0 0 := by
  have b12 := hS.c12.2
  have b13 := hS.c13.2
  have b14 := hS.c14.2
  have b16 := hS.c16.2
  have b29 := hS.c29.2
  have b30 := hS.c30.2
  have b31 := hS.c31.2
  have b48 := hS.c48.2
  have b49 := hS.c49.2
  have b50 := hS.c50.2
  have b51 := hS.c51.2
  have b77 := hS.c77.2
  have b78 := hS.c78.2
  have b79 := hS.c79.2
  have b82 := hS.c82.2
  refine Con.begin [some (.ref 20), some (.int k), some (.int w)] rfl rfl (Nat.le_of_ble_eq_true rfl) rfl rfl (fun X C R => ?_)
  refine g_aload_n C (pc := 0) dX3_first_0 rfl rfl ?_
  refine g_iload_n C (pc := 1) dX3_first_1 rfl ?_
  refine g_iload_n C (pc := 2) dX3_first_2 rfl ?_
  refine g_callVD C (pc := 3) [.int k, .int w] [] dX3_first_3 (c_X3_finds l D B K S h n k w hS) (lw_V q1839 q1841 qs78 q87 q1842) (wd_20 _ _ _) rfl rfl ds_X3_finds ⟨rfl, rfl⟩ ⟨Nat.le_of_ble_eq_true rfl, Nat.le_of_ble_eq_true rfl⟩ rfl rfl ⟨Nat.le_of_ble_eq_true rfl, Nat.le_of_ble_eq_true rfl⟩ (Nat.le_of_ble_eq_true rfl) rfl ?_
  refine G.nmS (fun S_3 e_S_3 => ?_)
  refine g_if_eq C (pc := 6) (tgt := 16) dX3_first_6 (by decide) (fun c_6 => ?_) (fun c_6 => ?_)
  · skip
    have c_6 : ¬ ((m_finds S k w).2) = true := b2i_0.mp c_6
    refine g_iconst C (pc := 16) (v := (-1)) dX3_first_16 (by decide) ?_
    exact g_iretD C R dX3_first_17 (Nat.le_refl _) (Nat.le_refl _) (by unfold m_first; first | (rw [e_S_3]; show _ = (if _ then _ else _); first | (rw [if_pos (by assumption)]; done) | (rw [if_neg (by assumption)]; done)) | (show _ = (if _ then _ else _); first | (rw [if_pos (by assumption)]; done) | (rw [if_neg (by assumption)]; done))) (congrArg (fun z => wd K z h) (e_S_3)) rfl
  · skip
    have c_6 : ((m_finds S k w).2) = true := b2i_n0.mp c_6
    refine g_aload_n C (pc := 9) dX3_first_9 rfl rfl ?_
    refine m_geti C 83 (pc := 10) (v := S_3.1 83) dX3_first_10 rfl q1276 rfl rfl ?_
    refine g_goto C (pc := 13) (tgt := 17) dX3_first_13 (by decide) ?_
    exact g_iretD C R dX3_first_17 (Nat.le_refl _) (Nat.le_refl _) (by unfold m_first; first | (rw [e_S_3]; show _ = (if _ then _ else _); first | (rw [if_pos (by assumption)]; done) | (rw [if_neg (by assumption)]; done)) | (show _ = (if _ then _ else _); first | (rw [if_pos (by assumption)]; done) | (rw [if_neg (by assumption)]; done))) (congrArg (fun z => wd K z h) (e_S_3)) rfl
theorem ds_X3_first : yX3_first.cls ≠ "java/lang/invoke/MethodHandle" ∧ yX3_first.cls ≠ "java/lang/invoke/VarHandle" ∧ (parseMethodDescriptor yX3_first.desc).map (fun d => d.parameters.length) = some 2 := by decide +kernel
set_option maxHeartbeats 4000000 in
set_option maxRecDepth 100000 in
theorem c_X3_isWell (l : Launch) (D : gD) (B : Nat × Nat) (K : KS) (S : MS) (h : gHp) (n : Nat) (p : Int32) (r : Int32) (hS : MOK S) (hp : vp_in p 40) : Con l yX3_isWell (ws_ yX3_isWell cX3_isWell 5 (some .boolean)) ({ frames := 2, cells := 0, slots := 0, locals := 52 }) D B [.ref 20, .int p, .int r] (wd K S h) n (gdt (some (.int (b2i (wellS S p r (mN S 82))))) (wd K (S) h) n) 0 0 := by
  have b12 := hS.c12.2
  have b13 := hS.c13.2
  have b14 := hS.c14.2
  have b16 := hS.c16.2
  have b29 := hS.c29.2
  have b30 := hS.c30.2
  have b31 := hS.c31.2
  have b48 := hS.c48.2
  have b49 := hS.c49.2
  have b50 := hS.c50.2
  have b51 := hS.c51.2
  have b77 := hS.c77.2
  have b78 := hS.c78.2
  have b79 := hS.c79.2
  have b82 := hS.c82.2
  refine Con.begin [some (.ref 20), some (.int p), some (.int r), none, none] rfl rfl (Nat.le_of_ble_eq_true rfl) rfl rfl (fun X C R => ?_)
  refine g_aload_n C (pc := 0) dX3_isWell_0 rfl rfl ?_
  refine m_geta C 21 36 (pc := 1) dX3_isWell_1 (by decide) (fun _ => rfl) q1214 rfl ?_
  refine g_iload_n C (pc := 4) dX3_isWell_4 rfl ?_
  refine m_iald C (pc := 5) (v := (S.2.1 36) ((p).toNatClampNeg)) dX3_isWell_5 (by decide) rfl hp rfl ?_
  refine G.topi (fun x_6 e_x_6 => ?_)
  have e_x_6 : x_6 = (S.2.1 36) ((p).toNatClampNeg) := e_x_6
  refine g_istore_n C (pc := 6) (L' := [some (.ref 20), some (.int p), some (.int r), some (.int x_6), none]) dX3_isWell_6 (by decide) rfl rfl ?_
  refine g_iconst C (pc := 7) (v := 0) dX3_isWell_7 (by decide) ?_
  refine g_istore C (pc := 8) (L' := [some (.ref 20), some (.int p), some (.int r), some (.int x_6), some (.int 0)]) dX3_isWell_8 (by decide) rfl rfl ?_
  have loop_10 : ∀ (d10 : Nat) (j : Nat), (j ≤ (mN S 82)) → (wellS S p r j = true) → (mN S 82) - j < d10 → G X D B (wd K S h) n 0 0 [some (.ref 20), some (.int p), some (.int r), some (.int x_6), some (.int (nI j))] 10 [] := by
    intro d10
    induction d10 with
    | zero =>
      intro j hj hw hm10
      exact absurd hm10 (Nat.not_lt_zero _)
    | succ d10 ih10 =>
      intro j hj hw hm10
      refine g_iload C (pc := 10) dX3_isWell_10 rfl ?_
      refine g_aload_n C (pc := 12) dX3_isWell_12 rfl rfl ?_
      refine m_geti C 82 (pc := 13) (v := nI (mN S 82)) dX3_isWell_13 rfl q1275 rfl hS.c82.1 ?_
      refine g_icmp_ge C (pc := 16) (tgt := 83) dX3_isWell_16 (by decide) (fun c_16 => ?_) (fun c_16 => ?_)
      · skip
        have c_16 : (mN S 82) ≤ j := Nat.not_lt.mp fun q => c_16 ((nI_ltI (a := j) (b := (mN S 82)) (by omega) (by omega)).mpr q)
        have hje : j = (mN S 82) := by omega
        refine g_iconst C (pc := 83) (v := 1) dX3_isWell_83 (by decide) ?_
        exact g_zretD C (b2i_nb _) R dX3_isWell_84 (Nat.le_refl _) (Nat.le_refl _) (by first | (rw [hwf]; rfl) | (rw [hje] at hw; rw [hw]; rfl)) rfl rfl
      · skip
        have c_16 : j < (mN S 82) := (nI_ltI (a := j) (b := (mN S 82)) (by omega) (by omega)).mp c_16
        refine g_aload_n C (pc := 19) dX3_isWell_19 rfl rfl ?_
        refine g_aload_n C (pc := 20) dX3_isWell_20 rfl rfl ?_
        refine m_geta C 80 74 (pc := 21) dX3_isWell_21 (by decide) (fun _ => rfl) q1273 rfl ?_
        refine g_iload C (pc := 24) dX3_isWell_24 rfl ?_
        refine m_iald C (pc := 26) (v := (S.2.1 74) j) dX3_isWell_26 (by decide) rfl (vp_in_nI (by omega) (by decide)) (gix (S.2.1 74) (by omega)) ?_
        refine g_aload_n C (pc := 27) dX3_isWell_27 rfl rfl ?_
        refine m_geti C 1 (pc := 28) (v := S.1 1) dX3_isWell_28 rfl q1194 rfl rfl ?_
        refine g_iload_n C (pc := 31) dX3_isWell_31 rfl ?_
        refine g_iload_n C (pc := 32) dX3_isWell_32 rfl ?_
        refine g_callVD C (pc := 33) [.int ((S.2.1 74) j), .int (S.1 1), .int p, .int r] [] dX3_isWell_33 (c_X3_closes l D B K S h n ((S.2.1 74) j) (S.1 1) p r hS) (lw_V q1619 q1621 qs50 q87 q1622) (wd_20 _ _ _) rfl rfl ds_X3_closes ⟨rfl, rfl⟩ ⟨Nat.le_of_ble_eq_true rfl, Nat.le_of_ble_eq_true rfl⟩ rfl rfl ⟨Nat.le_of_ble_eq_true rfl, Nat.le_of_ble_eq_true rfl⟩ (Nat.le_of_ble_eq_true rfl) rfl ?_
        refine g_iload_n C (pc := 36) dX3_isWell_36 rfl ?_
        refine g_lshr C (pc := 37) (v := jlshr (closesS S ((S.2.1 74) j) (S.1 1) p r) x_6) dX3_isWell_37 rfl ?_
        refine g_lconst C (pc := 38) (v := 1) dX3_isWell_38 (by decide) ?_
        refine g_land C (pc := 39) dX3_isWell_39 ?_
        refine g_lconst C (pc := 40) (v := 1) dX3_isWell_40 (by decide) ?_
        refine g_lcmp C (pc := 41) dX3_isWell_41 ?_
        refine g_if_eq C (pc := 42) (tgt := 75) dX3_isWell_42 (by decide) (fun c_42 => ?_) (fun c_42 => ?_)
        · skip
          have c_42 := lcmp_0.mp c_42
          refine g_iconst C (pc := 75) (v := 0) dX3_isWell_75 (by decide) ?_
          have hwf : wellS S p r (mN S 82) = false := by refine wellS_mono (i := j + 1) ?_ (by omega); simp only [wellS, hw]; (try rw [e_x_6] at c_72); rw [e_x_6] at c_42; simp [*]
          exact g_zretD C (b2i_nb _) R dX3_isWell_76 (Nat.le_refl _) (Nat.le_refl _) (by first | (rw [hwf]; rfl) | (rw [hje] at hw; rw [hw]; rfl)) rfl rfl
        · skip
          have c_42 := lcmp_n0.mp c_42
          refine g_aload_n C (pc := 45) dX3_isWell_45 rfl rfl ?_
          refine g_aload_n C (pc := 46) dX3_isWell_46 rfl rfl ?_
          refine g_aload_n C (pc := 47) dX3_isWell_47 rfl rfl ?_
          refine m_geta C 80 74 (pc := 48) dX3_isWell_48 (by decide) (fun _ => rfl) q1273 rfl ?_
          refine g_iload C (pc := 51) dX3_isWell_51 rfl ?_
          refine m_iald C (pc := 53) (v := (S.2.1 74) j) dX3_isWell_53 (by decide) rfl (vp_in_nI (by omega) (by decide)) (gix (S.2.1 74) (by omega)) ?_
          refine g_callVD C (pc := 54) [.int ((S.2.1 74) j)] [.ref 20] dX3_isWell_54 (c_X3_others l D B K S h n ((S.2.1 74) j) ) (lw_V q1831 q1833 qs77 q87 q1834) (wd_20 _ _ _) rfl rfl ds_X3_others ⟨rfl, rfl⟩ ⟨Nat.le_of_ble_eq_true rfl, Nat.le_of_ble_eq_true rfl⟩ rfl rfl ⟨Nat.le_of_ble_eq_true rfl, Nat.le_of_ble_eq_true rfl⟩ (Nat.le_of_ble_eq_true rfl) rfl ?_
          refine g_aload_n C (pc := 57) dX3_isWell_57 rfl rfl ?_
          refine m_geti C 1 (pc := 58) (v := S.1 1) dX3_isWell_58 rfl q1194 rfl rfl ?_
          refine g_iload_n C (pc := 61) dX3_isWell_61 rfl ?_
          refine g_iload_n C (pc := 62) dX3_isWell_62 rfl ?_
          refine g_callVD C (pc := 63) [.int (othersV (S.1 12) ((S.2.1 74) j)), .int (S.1 1), .int p, .int r] [] dX3_isWell_63 (c_X3_closes l D B K S h n (othersV (S.1 12) ((S.2.1 74) j)) (S.1 1) p r hS) (lw_V q1619 q1621 qs50 q87 q1622) (wd_20 _ _ _) rfl rfl ds_X3_closes ⟨rfl, rfl⟩ ⟨Nat.le_of_ble_eq_true rfl, Nat.le_of_ble_eq_true rfl⟩ rfl rfl ⟨Nat.le_of_ble_eq_true rfl, Nat.le_of_ble_eq_true rfl⟩ (Nat.le_of_ble_eq_true rfl) rfl ?_
          refine g_iload_n C (pc := 66) dX3_isWell_66 rfl ?_
          refine g_lshr C (pc := 67) (v := jlshr (closesS S (othersV (S.1 12) ((S.2.1 74) j)) (S.1 1) p r) x_6) dX3_isWell_67 rfl ?_
          refine g_lconst C (pc := 68) (v := 1) dX3_isWell_68 (by decide) ?_
          refine g_land C (pc := 69) dX3_isWell_69 ?_
          refine g_lconst C (pc := 70) (v := 0) dX3_isWell_70 (by decide) ?_
          refine g_lcmp C (pc := 71) dX3_isWell_71 ?_
          refine g_if_ne C (pc := 72) (tgt := 77) dX3_isWell_72 (by decide) (fun c_72 => ?_) (fun c_72 => ?_)
          · skip
            have c_72 := lcmp_n0.mp c_72
            refine g_iinc C (pc := 77) (v := nI (j + 1)) (L' := [some (.ref 20), some (.int p), some (.int r), some (.int x_6), some (.int (nI (j + 1)))]) dX3_isWell_77 rfl (nI_inc _) (by decide) rfl rfl ?_
            refine g_goto C (pc := 80) (tgt := 10) dX3_isWell_80 (by decide) ?_
            refine G.mask [true, true, true, true, true] rfl ?_
            exact ih10 (j + 1) (by omega) (by simp only [wellS, hw]; rw [e_x_6] at c_42 c_72; simp [c_42, c_72]) (by omega)
          · skip
            have c_72 := lcmp_0.mp c_72
            refine g_iconst C (pc := 75) (v := 0) dX3_isWell_75 (by decide) ?_
            have hwf : wellS S p r (mN S 82) = false := by refine wellS_mono (i := j + 1) ?_ (by omega); simp only [wellS, hw]; (try rw [e_x_6] at c_72); rw [e_x_6] at c_42; simp [*]
            exact g_zretD C (b2i_nb _) R dX3_isWell_76 (Nat.le_refl _) (Nat.le_refl _) (by first | (rw [hwf]; rfl) | (rw [hje] at hw; rw [hw]; rfl)) rfl rfl
  refine G.mask [true, true, true, true, true] rfl ?_
  exact loop_10 _ 0 (Nat.zero_le _) (rfl) (Nat.lt_succ_self _)
theorem ds_X3_isWell : yX3_isWell.cls ≠ "java/lang/invoke/MethodHandle" ∧ yX3_isWell.cls ≠ "java/lang/invoke/VarHandle" ∧ (parseMethodDescriptor yX3_isWell.desc).map (fun d => d.parameters.length) = some 2 := by decide +kernel
set_option maxHeartbeats 4000000 in
set_option maxRecDepth 100000 in
theorem c_X3_better (l : Launch) (D : gD) (B : Nat × Nat) (K : KS) (S : MS) (h : gHp) (n : Nat) (p : Int32) (hS : MOK S) : Con l yX3_better (ws_ yX3_better cX3_better 5 (some .int)) ({ frames := 3, cells := 0, slots := 0, locals := 76 }) D B [.ref 20, .int p] (wd K S h) n (gdt (some (.int ((m_better S p).2))) (wd K ((m_better S p).1) h) n) 0 0 := by
  have b12 := hS.c12.2
  have b13 := hS.c13.2
  have b14 := hS.c14.2
  have b16 := hS.c16.2
  have b29 := hS.c29.2
  have b30 := hS.c30.2
  have b31 := hS.c31.2
  have b48 := hS.c48.2
  have b49 := hS.c49.2
  have b50 := hS.c50.2
  have b51 := hS.c51.2
  have b77 := hS.c77.2
  have b78 := hS.c78.2
  have b79 := hS.c79.2
  have b82 := hS.c82.2
  refine Con.begin [some (.ref 20), some (.int p), none, none, none] rfl rfl (Nat.le_of_ble_eq_true rfl) rfl rfl (fun X C R => ?_)
  refine g_aload_n C (pc := 0) dX3_better_0 rfl rfl ?_
  refine g_iconst C (pc := 1) (v := 0) dX3_better_1 (by decide) ?_
  refine m_puti C 0 (pc := 2) dX3_better_2 rfl q1193 rfl rfl rfl ?_
  refine g_aload_n C (pc := 5) dX3_better_5 rfl rfl ?_
  refine g_iload_n C (pc := 6) dX3_better_6 rfl ?_
  refine g_callVD C (pc := 7) [.int p] [] dX3_better_7 (c_X3_isParting l D B K (sI S 0 0) h n p ) (lw_V q1559 q1561 qs44 q87 q1562) (wd_20 _ _ _) rfl rfl ds_X3_isParting ⟨rfl, rfl⟩ ⟨Nat.le_of_ble_eq_true rfl, Nat.le_of_ble_eq_true rfl⟩ rfl rfl ⟨Nat.le_of_ble_eq_true rfl, Nat.le_of_ble_eq_true rfl⟩ (Nat.le_of_ble_eq_true rfl) rfl ?_
  refine g_if_eq C (pc := 10) (tgt := 25) dX3_better_10 (by decide) (fun c_10 => ?_) (fun c_10 => ?_)
  · skip
    have c_10 : ¬ (isParting S p) := p2i_0.mp c_10
    refine g_iconst C (pc := 25) (v := (-1)) dX3_better_25 (by decide) ?_
    exact g_iretD C R dX3_better_26 (Nat.le_refl _) (Nat.le_refl _) (by unfold m_better; first | (rw [if_neg (by grind)]; subst e_S_32; exact hx2) | (rw [if_pos (by grind)])) (congrArg (fun z => wd K z h) (by unfold m_better; first | (rw [if_neg (by grind)]; exact e_S_32) | (rw [if_pos (by grind)]))) rfl
  · skip
    have c_10 : (isParting S p) := p2i_n0.mp c_10
    refine g_aload_n C (pc := 13) dX3_better_13 rfl rfl ?_
    refine g_iload_n C (pc := 14) dX3_better_14 rfl ?_
    refine g_aload_n C (pc := 15) dX3_better_15 rfl rfl ?_
    refine m_geti C 1 (pc := 16) (v := S.1 1) dX3_better_16 rfl q1194 rfl rfl ?_
    refine g_callVD C (pc := 19) [.int p, .int (S.1 1)] [] dX3_better_19 (c_X3_isForce l D B K (sI S 0 0) h n p (S.1 1) (isParting.inr hS c_10)) (lw_V q1623 q1625 qs51 q87 q1626) (wd_20 _ _ _) rfl rfl ds_X3_isForce ⟨rfl, rfl⟩ ⟨Nat.le_of_ble_eq_true rfl, Nat.le_of_ble_eq_true rfl⟩ rfl rfl ⟨Nat.le_of_ble_eq_true rfl, Nat.le_of_ble_eq_true rfl⟩ (Nat.le_of_ble_eq_true rfl) rfl ?_
    refine g_if_ne C (pc := 22) (tgt := 27) dX3_better_22 (by decide) (fun c_22 => ?_) (fun c_22 => ?_)
    · skip
      have c_22 : (isForce S.2.1 p.toNatClampNeg (S.1 1)) := p2i_n0.mp c_22
      refine g_aload_n C (pc := 27) dX3_better_27 rfl rfl ?_
      refine g_aload_n C (pc := 28) dX3_better_28 rfl rfl ?_
      refine m_geti C 1 (pc := 29) (v := S.1 1) dX3_better_29 rfl q1194 rfl rfl ?_
      refine g_callVDv C (pc := 32) [.int (S.1 1)] [] dX3_better_32 (c_X3_layHas l D B K (sI S 0 0) h n (S.1 1) (hS.setI 0 rfl)) (lw_V q1615 q1617 qs49 q87 q1618) (wd_20 _ _ _) rfl rfl ds_X3_layHas ⟨rfl, rfl⟩ ⟨Nat.le_of_ble_eq_true rfl, Nat.le_of_ble_eq_true rfl⟩ rfl rfl ⟨Nat.le_of_ble_eq_true rfl, Nat.le_of_ble_eq_true rfl⟩ (Nat.le_of_ble_eq_true rfl) rfl ?_
      refine G.nmS (fun S_32 e_S_32 => ?_)
      refine g_iconst C (pc := 35) (v := (-1)) dX3_better_35 (by decide) ?_
      refine g_istore_n C (pc := 36) (L' := [some (.ref 20), some (.int p), some (.int (-1)), none, none]) dX3_better_36 (by decide) rfl rfl ?_
      refine g_aload_n C (pc := 37) dX3_better_37 rfl rfl ?_
      refine m_geta C 23 38 (pc := 38) dX3_better_38 (by decide) (fun _ => rfl) q1216 rfl ?_
      refine g_iload_n C (pc := 41) dX3_better_41 rfl ?_
      refine m_iald C (pc := 42) (v := (S_32.2.1 38) ((p).toNatClampNeg)) dX3_better_42 (by decide) rfl (isParting.inr hS c_10) rfl ?_
      refine G.topi (fun x_43 e_x_43 => ?_)
      have e_x_43 : x_43 = (S_32.2.1 38) ((p).toNatClampNeg) := e_x_43
      refine g_istore_n C (pc := 43) (L' := [some (.ref 20), some (.int p), some (.int (-1)), some (.int x_43), none]) dX3_better_43 (by decide) rfl rfl ?_
      refine g_iconst C (pc := 44) (v := 1) dX3_better_44 (by decide) ?_
      refine g_istore C (pc := 45) (L' := [some (.ref 20), some (.int p), some (.int (-1)), some (.int x_43), some (.int 1)]) dX3_better_45 (by decide) rfl rfl ?_
      have hA : S_32.2.1 = S.2.1 := by rw [e_S_32]; rfl
      have hok : MOK S_32 := by rw [e_S_32]; exact hS.setI (f := 0) 0 rfl
      have hbr := bitc_rng ((S.2.1 37) p.toNatClampNeg)
      have hnf : mN S_32 82 = (mN S 82) := by rw [e_S_32]; rfl
      have loop_47 : ∀ (d47 : Nat) (j : Nat) (x : Int32), (j ≤ (bitc ((S.2.1 37) p.toNatClampNeg)).toNatClampNeg) → (x = betU (fun r => wellS S_32 p r (mN S 82)) x_43 j) → (bitc ((S.2.1 37) p.toNatClampNeg)).toNatClampNeg - j < d47 → G X D B (wd K S_32 h) n 0 0 [some (.ref 20), some (.int p), some (.int x), some (.int x_43), some (.int (nI (j + 1)))] 47 [] := by
        intro d47
        induction d47 with
        | zero =>
          intro j x hj hx hm47
          exact absurd hm47 (Nat.not_lt_zero _)
        | succ d47 ih47 =>
          intro j x hj hx hm47
          refine g_iload C (pc := 47) dX3_better_47 rfl ?_
          refine g_aload_n C (pc := 49) dX3_better_49 rfl rfl ?_
          refine m_geta C 22 37 (pc := 50) dX3_better_50 (by decide) (fun _ => rfl) q1215 rfl ?_
          refine g_iload_n C (pc := 53) dX3_better_53 rfl ?_
          refine m_iald C (pc := 54) (v := (S_32.2.1 37) ((p).toNatClampNeg)) dX3_better_54 (by decide) rfl (isParting.inr hS c_10) rfl ?_
          refine g_callSD C (pc := 55) [.int ((S_32.2.1 37) ((p).toNatClampNeg))] [.int (nI (j + 1))] dX3_better_55 (c_J5_bitCount l D B (wd K S_32 h) n ((S_32.2.1 37) ((p).toNatClampNeg)) ) (lw_S q1542 q545 q98 q546) ds_J5_bitCount ⟨rfl, rfl⟩ ⟨Nat.le_of_ble_eq_true rfl, Nat.le_of_ble_eq_true rfl⟩ rfl rfl ⟨Nat.le_of_ble_eq_true rfl, Nat.le_of_ble_eq_true rfl⟩ (Nat.le_of_ble_eq_true rfl) rfl ?_
          rw [hA]
          refine G.topc hbr.1 ?_
          refine g_icmp_gt C (pc := 58) (tgt := 101) dX3_better_58 (by decide) (fun c_58 => ?_) (fun c_58 => ?_)
          · skip
            have c_58 : ((bitc ((S.2.1 37) p.toNatClampNeg)).toNatClampNeg) < (j + 1) := (nI_ltI (a := ((bitc ((S.2.1 37) p.toNatClampNeg)).toNatClampNeg)) (b := (j + 1)) (by omega) (by omega)).mp c_58
            have hx2 : x = betU (fun r => wellS S_32 p r (mN S 82)) ((S_32.2.1 38) p.toNatClampNeg) (bitc ((S.2.1 37) p.toNatClampNeg)).toNatClampNeg := by rw [hx, e_x_43, show j = (bitc ((S.2.1 37) p.toNatClampNeg)).toNatClampNeg by omega]
            refine g_iload_n C (pc := 101) dX3_better_101 rfl ?_
            exact g_iretD C R dX3_better_102 (Nat.le_refl _) (Nat.le_refl _) (by unfold m_better; first | (rw [if_neg (by grind)]; subst e_S_32; exact hx2) | (rw [if_pos (by grind)])) (congrArg (fun z => wd K z h) (by unfold m_better; first | (rw [if_neg (by grind)]; exact e_S_32) | (rw [if_pos (by grind)]))) rfl
          · skip
            have c_58 : (j + 1) ≤ ((bitc ((S.2.1 37) p.toNatClampNeg)).toNatClampNeg) := Nat.not_lt.mp fun q => c_58 ((nI_ltI (a := ((bitc ((S.2.1 37) p.toNatClampNeg)).toNatClampNeg)) (b := (j + 1)) (by omega) (by omega)).mpr q)
            refine g_aload_n C (pc := 61) dX3_better_61 rfl rfl ?_
            refine g_iload_n C (pc := 62) dX3_better_62 rfl ?_
            refine g_iload C (pc := 63) dX3_better_63 rfl ?_
            refine g_callVD C (pc := 65) [.int p, .int (nI (j + 1))] [] dX3_better_65 (c_X3_isWell l D B K S_32 h n p (nI (j + 1)) hok (isParting.inr hS c_10)) (lw_V q1859 q1861 qs80 q87 q1862) (wd_20 _ _ _) rfl rfl ds_X3_isWell ⟨rfl, rfl⟩ ⟨Nat.le_of_ble_eq_true rfl, Nat.le_of_ble_eq_true rfl⟩ rfl rfl ⟨Nat.le_of_ble_eq_true rfl, Nat.le_of_ble_eq_true rfl⟩ (Nat.le_of_ble_eq_true rfl) rfl ?_
            refine g_if_eq C (pc := 68) (tgt := 95) dX3_better_68 (by decide) (fun c_68 => ?_) (fun c_68 => ?_)
            · skip
              have c_68 : ¬ (wellS S_32 p (nI (j + 1)) (mN S_32 82)) = true := b2i_0.mp c_68
              rw [hnf] at c_68
              refine g_iinc C (pc := 95) (v := nI ((j + 1) + 1)) (L' := [some (.ref 20), some (.int p), some (.int x), some (.int x_43), some (.int (nI ((j + 1) + 1)))]) dX3_better_95 rfl (nI_inc _) (by decide) rfl rfl ?_
              refine g_goto C (pc := 98) (tgt := 47) dX3_better_98 (by decide) ?_
              refine G.mask [true, true, true, true, true] rfl ?_
              exact ih47 (j + 1) x (by omega) (by simp only [betU]; rw [← hx]; first | (rw [if_pos (by grind)]) | (rw [if_neg (by grind)])) (by omega)
            · skip
              have c_68 : (wellS S_32 p (nI (j + 1)) (mN S_32 82)) = true := b2i_n0.mp c_68
              rw [hnf] at c_68
              refine g_iload_n C (pc := 71) dX3_better_71 rfl ?_
              refine g_iconst C (pc := 72) (v := (-1)) dX3_better_72 (by decide) ?_
              refine g_icmp_eq C (pc := 73) (tgt := 92) dX3_better_73 (by decide) (fun c_73 => ?_) (fun c_73 => ?_)
              · skip
                have c_73 : ((x) : Int32) = -1 := c_73
                refine g_iload C (pc := 92) dX3_better_92 rfl ?_
                refine g_istore_n C (pc := 94) (L' := [some (.ref 20), some (.int p), some (.int (nI (j + 1))), some (.int x_43), some (.int (nI (j + 1)))]) dX3_better_94 (by decide) rfl rfl ?_
                refine g_iinc C (pc := 95) (v := nI ((j + 1) + 1)) (L' := [some (.ref 20), some (.int p), some (.int (nI (j + 1))), some (.int x_43), some (.int (nI ((j + 1) + 1)))]) dX3_better_95 rfl (nI_inc _) (by decide) rfl rfl ?_
                refine g_goto C (pc := 98) (tgt := 47) dX3_better_98 (by decide) ?_
                refine G.mask [true, true, true, true, true] rfl ?_
                exact ih47 (j + 1) (nI (j + 1)) (by omega) (by simp only [betU]; rw [← hx]; first | (rw [if_pos (by grind)]) | (rw [if_neg (by grind)])) (by omega)
              · skip
                have c_73 : ¬ ((x) : Int32) = -1 := c_73
                refine g_iload C (pc := 76) dX3_better_76 rfl ?_
                refine g_iload_n C (pc := 78) dX3_better_78 rfl ?_
                refine g_isub C (pc := 79) dX3_better_79 ?_
                refine g_callSD C (pc := 80) [.int ((nI (j + 1)) - x_43)] [] dX3_better_80 (c_J2_abs l D B (wd K S_32 h) n ((nI (j + 1)) - x_43) ) (lw_S q1863 q1141 q92 q1142) ds_J2_abs ⟨rfl, rfl⟩ ⟨Nat.le_of_ble_eq_true rfl, Nat.le_of_ble_eq_true rfl⟩ rfl rfl ⟨Nat.le_of_ble_eq_true rfl, Nat.le_of_ble_eq_true rfl⟩ (Nat.le_of_ble_eq_true rfl) rfl ?_
                refine g_iload_n C (pc := 83) dX3_better_83 rfl ?_
                refine g_iload_n C (pc := 84) dX3_better_84 rfl ?_
                refine g_isub C (pc := 85) dX3_better_85 ?_
                refine g_callSD C (pc := 86) [.int (x - x_43)] [.int (iabs ((nI (j + 1)) - x_43))] dX3_better_86 (c_J2_abs l D B (wd K S_32 h) n (x - x_43) ) (lw_S q1863 q1141 q92 q1142) ds_J2_abs ⟨rfl, rfl⟩ ⟨Nat.le_of_ble_eq_true rfl, Nat.le_of_ble_eq_true rfl⟩ rfl rfl ⟨Nat.le_of_ble_eq_true rfl, Nat.le_of_ble_eq_true rfl⟩ (Nat.le_of_ble_eq_true rfl) rfl ?_
                refine g_icmp_ge C (pc := 89) (tgt := 95) dX3_better_89 (by decide) (fun c_89 => ?_) (fun c_89 => ?_)
                · skip
                  have c_89 : ¬ ((iabs ((nI (j + 1)) - x_43)) : Int32) < (iabs (x - x_43)) := c_89
                  refine g_iinc C (pc := 95) (v := nI ((j + 1) + 1)) (L' := [some (.ref 20), some (.int p), some (.int x), some (.int x_43), some (.int (nI ((j + 1) + 1)))]) dX3_better_95 rfl (nI_inc _) (by decide) rfl rfl ?_
                  refine g_goto C (pc := 98) (tgt := 47) dX3_better_98 (by decide) ?_
                  refine G.mask [true, true, true, true, true] rfl ?_
                  exact ih47 (j + 1) x (by omega) (by simp only [betU]; rw [← hx]; first | (rw [if_pos (by grind)]) | (rw [if_neg (by grind)])) (by omega)
                · skip
                  have c_89 : ((iabs ((nI (j + 1)) - x_43)) : Int32) < (iabs (x - x_43)) := c_89
                  refine g_iload C (pc := 92) dX3_better_92 rfl ?_
                  refine g_istore_n C (pc := 94) (L' := [some (.ref 20), some (.int p), some (.int (nI (j + 1))), some (.int x_43), some (.int (nI (j + 1)))]) dX3_better_94 (by decide) rfl rfl ?_
                  refine g_iinc C (pc := 95) (v := nI ((j + 1) + 1)) (L' := [some (.ref 20), some (.int p), some (.int (nI (j + 1))), some (.int x_43), some (.int (nI ((j + 1) + 1)))]) dX3_better_95 rfl (nI_inc _) (by decide) rfl rfl ?_
                  refine g_goto C (pc := 98) (tgt := 47) dX3_better_98 (by decide) ?_
                  refine G.mask [true, true, true, true, true] rfl ?_
                  exact ih47 (j + 1) (nI (j + 1)) (by omega) (by simp only [betU]; rw [← hx]; first | (rw [if_pos (by grind)]) | (rw [if_neg (by grind)])) (by omega)
      refine G.mask [true, true, true, true, true] rfl ?_
      exact loop_47 _ 0 (-1) (Nat.zero_le _) (rfl) (Nat.lt_succ_self _)
    · skip
      have c_22 : ¬ (isForce S.2.1 p.toNatClampNeg (S.1 1)) := p2i_0.mp c_22
      refine g_iconst C (pc := 25) (v := (-1)) dX3_better_25 (by decide) ?_
      exact g_iretD C R dX3_better_26 (Nat.le_refl _) (Nat.le_refl _) (by unfold m_better; first | (rw [if_neg (by grind)]; subst e_S_32; exact hx2) | (rw [if_pos (by grind)])) (congrArg (fun z => wd K z h) (by unfold m_better; first | (rw [if_neg (by grind)]; exact e_S_32) | (rw [if_pos (by grind)]))) rfl
theorem ds_X3_better : yX3_better.cls ≠ "java/lang/invoke/MethodHandle" ∧ yX3_better.cls ≠ "java/lang/invoke/VarHandle" ∧ (parseMethodDescriptor yX3_better.desc).map (fun d => d.parameters.length) = some 1 := by decide +kernel
set_option maxHeartbeats 4000000 in
set_option maxRecDepth 100000 in
theorem c_X3_isBarred (l : Launch) (D : gD) (B : Nat × Nat) (K : KS) (S : MS) (h : gHp) (n : Nat) (k : Int32) (x : Int64) (z : Int64) (hS : MOK S) (hk : vp_in k 40) : Con l yX3_isBarred (ws_ yX3_isBarred cX3_isBarred 9 (some .boolean)) ({ frames := 1, cells := 0, slots := 0, locals := 22 }) D B [.ref 20, .int k, .long x, .long z] (wd K S h) n (gdt (some (.int (b2i (barS S.2.1 (S.1 1) (mN S 29) k x z)))) (wd K (S) h) n) 0 0 := by
  have b12 := hS.c12.2
  have b13 := hS.c13.2
  have b14 := hS.c14.2
  have b16 := hS.c16.2
  have b29 := hS.c29.2
  have b30 := hS.c30.2
  have b31 := hS.c31.2
  have b48 := hS.c48.2
  have b49 := hS.c49.2
  have b50 := hS.c50.2
  have b51 := hS.c51.2
  have b77 := hS.c77.2
  have b78 := hS.c78.2
  have b79 := hS.c79.2
  have b82 := hS.c82.2
  refine Con.begin [some (.ref 20), some (.int k), some (.long x), none, some (.long z), none, none, none, none] rfl rfl (Nat.le_of_ble_eq_true rfl) rfl rfl (fun X C R => ?_)
  refine g_lload_n C (pc := 0) dX3_isBarred_0 rfl ?_
  refine g_lload C (pc := 1) dX3_isBarred_1 rfl ?_
  refine g_ldc2_w C (pc := 3) dX3_isBarred_3 q1631 ?_
  refine g_lxor C (pc := 6) dX3_isBarred_6 ?_
  refine g_land C (pc := 7) dX3_isBarred_7 ?_
  refine G.topl (fun x_8 e_x_8 => ?_)
  have e_x_8 : x_8 = x &&& (z ^^^ (-1)) := e_x_8
  refine g_lstore C (pc := 8) (L' := [some (.ref 20), some (.int k), some (.long x), none, some (.long z), none, some (.long x_8), none, none]) dX3_isBarred_8 (by decide) rfl rfl ?_
  refine g_aload_n C (pc := 10) dX3_isBarred_10 rfl rfl ?_
  refine m_geta C 2 21 (pc := 11) dX3_isBarred_11 (by decide) (fun _ => rfl) q1195 rfl ?_
  refine g_iload_n C (pc := 14) dX3_isBarred_14 rfl ?_
  refine m_iald C (pc := 15) (v := (S.2.1 21) ((k).toNatClampNeg)) dX3_isBarred_15 (by decide) rfl hk rfl ?_
  refine g_iconst C (pc := 16) (v := 2) dX3_isBarred_16 (by decide) ?_
  refine g_icmp_ne C (pc := 17) (tgt := 38) dX3_isBarred_17 (by decide) (fun c_17 => ?_) (fun c_17 => ?_)
  · skip
    have c_17 : ¬ (((S.2.1 21) ((k).toNatClampNeg)) : Int32) = 2 := c_17
    refine g_iconst C (pc := 38) (v := 0) dX3_isBarred_38 (by decide) ?_
    refine g_istore C (pc := 39) (L' := [some (.ref 20), some (.int k), some (.long x), none, some (.long z), none, some (.long x_8), none, some (.int 0)]) dX3_isBarred_39 (by decide) rfl rfl ?_
    have loop_41 : ∀ (d41 : Nat) (j : Nat), (j ≤ (mN S 29)) → (barU S.2.1 k (S.1 1) x_8 j = false) → (mN S 29) - j < d41 → G X D B (wd K S h) n 0 0 [some (.ref 20), some (.int k), some (.long x), none, some (.long z), none, some (.long x_8), none, some (.int (nI j))] 41 [] := by
      intro d41
      induction d41 with
      | zero =>
        intro j hj hw hm41
        exact absurd hm41 (Nat.not_lt_zero _)
      | succ d41 ih41 =>
        intro j hj hw hm41
        refine g_iload C (pc := 41) dX3_isBarred_41 rfl ?_
        refine g_aload_n C (pc := 43) dX3_isBarred_43 rfl rfl ?_
        refine m_geti C 29 (pc := 44) (v := nI (mN S 29)) dX3_isBarred_44 rfl q1222 rfl hS.c29.1 ?_
        refine g_icmp_ge C (pc := 47) (tgt := 99) dX3_isBarred_47 (by decide) (fun c_47 => ?_) (fun c_47 => ?_)
        · skip
          have c_47 : (mN S 29) ≤ j := Nat.not_lt.mp fun q => c_47 ((nI_ltI (a := j) (b := (mN S 29)) (by omega) (by omega)).mpr q)
          have hje : j = (mN S 29) := by omega
          refine g_iconst C (pc := 99) (v := 0) dX3_isBarred_99 (by decide) ?_
          exact g_zretD C (b2i_nb _) R dX3_isBarred_100 (Nat.le_refl _) (Nat.le_refl _) (by unfold barS; rw [hje] at hw; rw [← e_x_8, hw, decide_eq_false (by grind)]; rfl) rfl rfl
        · skip
          have c_47 : j < (mN S 29) := (nI_ltI (a := j) (b := (mN S 29)) (by omega) (by omega)).mp c_47
          refine g_aload_n C (pc := 50) dX3_isBarred_50 rfl rfl ?_
          refine m_geta C 17 32 (pc := 51) dX3_isBarred_51 (by decide) (fun _ => rfl) q1210 rfl ?_
          refine g_iload C (pc := 54) dX3_isBarred_54 rfl ?_
          refine m_iald C (pc := 56) (v := (S.2.1 32) j) dX3_isBarred_56 (by decide) rfl (vp_in_nI (by omega) (by decide)) (gix (S.2.1 32) (by omega)) ?_
          refine g_iload_n C (pc := 57) dX3_isBarred_57 rfl ?_
          refine g_icmp_ne C (pc := 58) (tgt := 93) dX3_isBarred_58 (by decide) (fun c_58 => ?_) (fun c_58 => ?_)
          · skip
            have c_58 : ¬ (((S.2.1 32) j) : Int32) = k := c_58
            refine g_iinc C (pc := 93) (v := nI (j + 1)) (L' := [some (.ref 20), some (.int k), some (.long x), none, some (.long z), none, some (.long x_8), none, some (.int (nI (j + 1)))]) dX3_isBarred_93 rfl (nI_inc _) (by decide) rfl rfl ?_
            refine g_goto C (pc := 96) (tgt := 41) dX3_isBarred_96 (by decide) ?_
            refine G.mask [true, true, true, false, true, false, true, false, true] rfl ?_
            exact ih41 (j + 1) (by omega) (by simp only [barU, hw, Bool.false_or]; exact decide_eq_false (by grind)) (by omega)
          · skip
            have c_58 : (((S.2.1 32) j) : Int32) = k := c_58
            refine g_aload_n C (pc := 61) dX3_isBarred_61 rfl rfl ?_
            refine g_iload C (pc := 62) dX3_isBarred_62 rfl ?_
            refine g_aload_n C (pc := 64) dX3_isBarred_64 rfl rfl ?_
            refine m_geti C 1 (pc := 65) (v := S.1 1) dX3_isBarred_65 rfl q1194 rfl rfl ?_
            refine g_callVD C (pc := 68) [.int (nI j), .int (S.1 1)] [] dX3_isBarred_68 (c_X3_isWrapped l D B K S h n (nI j) (S.1 1) (vp_in_nI (by omega) (by decide))) (lw_V q1627 q1629 qs52 q87 q1630) (wd_20 _ _ _) rfl rfl ds_X3_isWrapped ⟨rfl, rfl⟩ ⟨Nat.le_of_ble_eq_true rfl, Nat.le_of_ble_eq_true rfl⟩ rfl rfl ⟨Nat.le_of_ble_eq_true rfl, Nat.le_of_ble_eq_true rfl⟩ (Nat.le_of_ble_eq_true rfl) rfl ?_
            refine g_if_eq C (pc := 71) (tgt := 93) dX3_isBarred_71 (by decide) (fun c_71 => ?_) (fun c_71 => ?_)
            · skip
              have c_71 : ¬ (isWrapped S.2.1 (nI j).toNatClampNeg (S.1 1)) := p2i_0.mp c_71
              rw [nI_clamp (by omega)] at c_71
              refine g_iinc C (pc := 93) (v := nI (j + 1)) (L' := [some (.ref 20), some (.int k), some (.long x), none, some (.long z), none, some (.long x_8), none, some (.int (nI (j + 1)))]) dX3_isBarred_93 rfl (nI_inc _) (by decide) rfl rfl ?_
              refine g_goto C (pc := 96) (tgt := 41) dX3_isBarred_96 (by decide) ?_
              refine G.mask [true, true, true, false, true, false, true, false, true] rfl ?_
              exact ih41 (j + 1) (by omega) (by simp only [barU, hw, Bool.false_or]; exact decide_eq_false (by grind)) (by omega)
            · skip
              have c_71 : (isWrapped S.2.1 (nI j).toNatClampNeg (S.1 1)) := p2i_n0.mp c_71
              rw [nI_clamp (by omega)] at c_71
              refine g_lload C (pc := 74) dX3_isBarred_74 rfl ?_
              refine g_aload_n C (pc := 76) dX3_isBarred_76 rfl rfl ?_
              refine m_geta C 18 33 (pc := 77) dX3_isBarred_77 (by decide) (fun _ => rfl) q1211 rfl ?_
              refine g_iload C (pc := 80) dX3_isBarred_80 rfl ?_
              refine m_iald C (pc := 82) (v := (S.2.1 33) j) dX3_isBarred_82 (by decide) rfl (vp_in_nI (by omega) (by decide)) (gix (S.2.1 33) (by omega)) ?_
              refine g_lshr C (pc := 83) (v := jlshr x_8 ((S.2.1 33) j)) dX3_isBarred_83 rfl ?_
              refine g_lconst C (pc := 84) (v := 1) dX3_isBarred_84 (by decide) ?_
              refine g_land C (pc := 85) dX3_isBarred_85 ?_
              refine g_lconst C (pc := 86) (v := 1) dX3_isBarred_86 (by decide) ?_
              refine g_lcmp C (pc := 87) dX3_isBarred_87 ?_
              refine g_if_ne C (pc := 88) (tgt := 93) dX3_isBarred_88 (by decide) (fun c_88 => ?_) (fun c_88 => ?_)
              · skip
                have c_88 := lcmp_n0.mp c_88
                refine g_iinc C (pc := 93) (v := nI (j + 1)) (L' := [some (.ref 20), some (.int k), some (.long x), none, some (.long z), none, some (.long x_8), none, some (.int (nI (j + 1)))]) dX3_isBarred_93 rfl (nI_inc _) (by decide) rfl rfl ?_
                refine g_goto C (pc := 96) (tgt := 41) dX3_isBarred_96 (by decide) ?_
                refine G.mask [true, true, true, false, true, false, true, false, true] rfl ?_
                exact ih41 (j + 1) (by omega) (by simp only [barU, hw, Bool.false_or]; exact decide_eq_false (by grind)) (by omega)
              · skip
                have c_88 := lcmp_0.mp c_88
                have hw2 : barU S.2.1 k (S.1 1) x_8 (mN S 29) = true := by refine barU_mono (i := j + 1) ?_ (by omega); simp only [barU, hw, Bool.false_or]; exact decide_eq_true ⟨c_58, c_71, c_88⟩
                refine g_iconst C (pc := 91) (v := 1) dX3_isBarred_91 (by decide) ?_
                exact g_zretD C (b2i_nb _) R dX3_isBarred_92 (Nat.le_refl _) (Nat.le_refl _) (by unfold barS; rw [← e_x_8, hw2, Bool.or_true]; rfl) rfl rfl
    refine G.mask [true, true, true, false, true, false, true, false, true] rfl ?_
    exact loop_41 _ 0 (Nat.zero_le _) (rfl) (Nat.lt_succ_self _)
  · skip
    have c_17 : (((S.2.1 21) ((k).toNatClampNeg)) : Int32) = 2 := c_17
    refine g_lload C (pc := 20) dX3_isBarred_20 rfl ?_
    refine g_aload_n C (pc := 22) dX3_isBarred_22 rfl rfl ?_
    refine m_geta C 4 23 (pc := 23) dX3_isBarred_23 (by decide) (fun _ => rfl) q1197 rfl ?_
    refine g_iload_n C (pc := 26) dX3_isBarred_26 rfl ?_
    refine m_iald C (pc := 27) (v := (S.2.1 23) ((k).toNatClampNeg)) dX3_isBarred_27 (by decide) rfl hk rfl ?_
    refine g_lshr C (pc := 28) (v := jlshr x_8 ((S.2.1 23) ((k).toNatClampNeg))) dX3_isBarred_28 rfl ?_
    refine g_lconst C (pc := 29) (v := 1) dX3_isBarred_29 (by decide) ?_
    refine g_land C (pc := 30) dX3_isBarred_30 ?_
    refine g_lconst C (pc := 31) (v := 1) dX3_isBarred_31 (by decide) ?_
    refine g_lcmp C (pc := 32) dX3_isBarred_32 ?_
    refine g_if_ne C (pc := 33) (tgt := 38) dX3_isBarred_33 (by decide) (fun c_33 => ?_) (fun c_33 => ?_)
    · skip
      have c_33 := lcmp_n0.mp c_33
      refine g_iconst C (pc := 38) (v := 0) dX3_isBarred_38 (by decide) ?_
      refine g_istore C (pc := 39) (L' := [some (.ref 20), some (.int k), some (.long x), none, some (.long z), none, some (.long x_8), none, some (.int 0)]) dX3_isBarred_39 (by decide) rfl rfl ?_
      have loop_41 : ∀ (d41 : Nat) (j : Nat), (j ≤ (mN S 29)) → (barU S.2.1 k (S.1 1) x_8 j = false) → (mN S 29) - j < d41 → G X D B (wd K S h) n 0 0 [some (.ref 20), some (.int k), some (.long x), none, some (.long z), none, some (.long x_8), none, some (.int (nI j))] 41 [] := by
        intro d41
        induction d41 with
        | zero =>
          intro j hj hw hm41
          exact absurd hm41 (Nat.not_lt_zero _)
        | succ d41 ih41 =>
          intro j hj hw hm41
          refine g_iload C (pc := 41) dX3_isBarred_41 rfl ?_
          refine g_aload_n C (pc := 43) dX3_isBarred_43 rfl rfl ?_
          refine m_geti C 29 (pc := 44) (v := nI (mN S 29)) dX3_isBarred_44 rfl q1222 rfl hS.c29.1 ?_
          refine g_icmp_ge C (pc := 47) (tgt := 99) dX3_isBarred_47 (by decide) (fun c_47 => ?_) (fun c_47 => ?_)
          · skip
            have c_47 : (mN S 29) ≤ j := Nat.not_lt.mp fun q => c_47 ((nI_ltI (a := j) (b := (mN S 29)) (by omega) (by omega)).mpr q)
            have hje : j = (mN S 29) := by omega
            refine g_iconst C (pc := 99) (v := 0) dX3_isBarred_99 (by decide) ?_
            exact g_zretD C (b2i_nb _) R dX3_isBarred_100 (Nat.le_refl _) (Nat.le_refl _) (by unfold barS; rw [hje] at hw; rw [← e_x_8, hw, decide_eq_false (by grind)]; rfl) rfl rfl
          · skip
            have c_47 : j < (mN S 29) := (nI_ltI (a := j) (b := (mN S 29)) (by omega) (by omega)).mp c_47
            refine g_aload_n C (pc := 50) dX3_isBarred_50 rfl rfl ?_
            refine m_geta C 17 32 (pc := 51) dX3_isBarred_51 (by decide) (fun _ => rfl) q1210 rfl ?_
            refine g_iload C (pc := 54) dX3_isBarred_54 rfl ?_
            refine m_iald C (pc := 56) (v := (S.2.1 32) j) dX3_isBarred_56 (by decide) rfl (vp_in_nI (by omega) (by decide)) (gix (S.2.1 32) (by omega)) ?_
            refine g_iload_n C (pc := 57) dX3_isBarred_57 rfl ?_
            refine g_icmp_ne C (pc := 58) (tgt := 93) dX3_isBarred_58 (by decide) (fun c_58 => ?_) (fun c_58 => ?_)
            · skip
              have c_58 : ¬ (((S.2.1 32) j) : Int32) = k := c_58
              refine g_iinc C (pc := 93) (v := nI (j + 1)) (L' := [some (.ref 20), some (.int k), some (.long x), none, some (.long z), none, some (.long x_8), none, some (.int (nI (j + 1)))]) dX3_isBarred_93 rfl (nI_inc _) (by decide) rfl rfl ?_
              refine g_goto C (pc := 96) (tgt := 41) dX3_isBarred_96 (by decide) ?_
              refine G.mask [true, true, true, false, true, false, true, false, true] rfl ?_
              exact ih41 (j + 1) (by omega) (by simp only [barU, hw, Bool.false_or]; exact decide_eq_false (by grind)) (by omega)
            · skip
              have c_58 : (((S.2.1 32) j) : Int32) = k := c_58
              refine g_aload_n C (pc := 61) dX3_isBarred_61 rfl rfl ?_
              refine g_iload C (pc := 62) dX3_isBarred_62 rfl ?_
              refine g_aload_n C (pc := 64) dX3_isBarred_64 rfl rfl ?_
              refine m_geti C 1 (pc := 65) (v := S.1 1) dX3_isBarred_65 rfl q1194 rfl rfl ?_
              refine g_callVD C (pc := 68) [.int (nI j), .int (S.1 1)] [] dX3_isBarred_68 (c_X3_isWrapped l D B K S h n (nI j) (S.1 1) (vp_in_nI (by omega) (by decide))) (lw_V q1627 q1629 qs52 q87 q1630) (wd_20 _ _ _) rfl rfl ds_X3_isWrapped ⟨rfl, rfl⟩ ⟨Nat.le_of_ble_eq_true rfl, Nat.le_of_ble_eq_true rfl⟩ rfl rfl ⟨Nat.le_of_ble_eq_true rfl, Nat.le_of_ble_eq_true rfl⟩ (Nat.le_of_ble_eq_true rfl) rfl ?_
              refine g_if_eq C (pc := 71) (tgt := 93) dX3_isBarred_71 (by decide) (fun c_71 => ?_) (fun c_71 => ?_)
              · skip
                have c_71 : ¬ (isWrapped S.2.1 (nI j).toNatClampNeg (S.1 1)) := p2i_0.mp c_71
                rw [nI_clamp (by omega)] at c_71
                refine g_iinc C (pc := 93) (v := nI (j + 1)) (L' := [some (.ref 20), some (.int k), some (.long x), none, some (.long z), none, some (.long x_8), none, some (.int (nI (j + 1)))]) dX3_isBarred_93 rfl (nI_inc _) (by decide) rfl rfl ?_
                refine g_goto C (pc := 96) (tgt := 41) dX3_isBarred_96 (by decide) ?_
                refine G.mask [true, true, true, false, true, false, true, false, true] rfl ?_
                exact ih41 (j + 1) (by omega) (by simp only [barU, hw, Bool.false_or]; exact decide_eq_false (by grind)) (by omega)
              · skip
                have c_71 : (isWrapped S.2.1 (nI j).toNatClampNeg (S.1 1)) := p2i_n0.mp c_71
                rw [nI_clamp (by omega)] at c_71
                refine g_lload C (pc := 74) dX3_isBarred_74 rfl ?_
                refine g_aload_n C (pc := 76) dX3_isBarred_76 rfl rfl ?_
                refine m_geta C 18 33 (pc := 77) dX3_isBarred_77 (by decide) (fun _ => rfl) q1211 rfl ?_
                refine g_iload C (pc := 80) dX3_isBarred_80 rfl ?_
                refine m_iald C (pc := 82) (v := (S.2.1 33) j) dX3_isBarred_82 (by decide) rfl (vp_in_nI (by omega) (by decide)) (gix (S.2.1 33) (by omega)) ?_
                refine g_lshr C (pc := 83) (v := jlshr x_8 ((S.2.1 33) j)) dX3_isBarred_83 rfl ?_
                refine g_lconst C (pc := 84) (v := 1) dX3_isBarred_84 (by decide) ?_
                refine g_land C (pc := 85) dX3_isBarred_85 ?_
                refine g_lconst C (pc := 86) (v := 1) dX3_isBarred_86 (by decide) ?_
                refine g_lcmp C (pc := 87) dX3_isBarred_87 ?_
                refine g_if_ne C (pc := 88) (tgt := 93) dX3_isBarred_88 (by decide) (fun c_88 => ?_) (fun c_88 => ?_)
                · skip
                  have c_88 := lcmp_n0.mp c_88
                  refine g_iinc C (pc := 93) (v := nI (j + 1)) (L' := [some (.ref 20), some (.int k), some (.long x), none, some (.long z), none, some (.long x_8), none, some (.int (nI (j + 1)))]) dX3_isBarred_93 rfl (nI_inc _) (by decide) rfl rfl ?_
                  refine g_goto C (pc := 96) (tgt := 41) dX3_isBarred_96 (by decide) ?_
                  refine G.mask [true, true, true, false, true, false, true, false, true] rfl ?_
                  exact ih41 (j + 1) (by omega) (by simp only [barU, hw, Bool.false_or]; exact decide_eq_false (by grind)) (by omega)
                · skip
                  have c_88 := lcmp_0.mp c_88
                  have hw2 : barU S.2.1 k (S.1 1) x_8 (mN S 29) = true := by refine barU_mono (i := j + 1) ?_ (by omega); simp only [barU, hw, Bool.false_or]; exact decide_eq_true ⟨c_58, c_71, c_88⟩
                  refine g_iconst C (pc := 91) (v := 1) dX3_isBarred_91 (by decide) ?_
                  exact g_zretD C (b2i_nb _) R dX3_isBarred_92 (Nat.le_refl _) (Nat.le_refl _) (by unfold barS; rw [← e_x_8, hw2, Bool.or_true]; rfl) rfl rfl
      refine G.mask [true, true, true, false, true, false, true, false, true] rfl ?_
      exact loop_41 _ 0 (Nat.zero_le _) (rfl) (Nat.lt_succ_self _)
    · skip
      have c_33 := lcmp_0.mp c_33
      refine g_iconst C (pc := 36) (v := 1) dX3_isBarred_36 (by decide) ?_
      exact g_zretD C (b2i_nb _) R dX3_isBarred_37 (Nat.le_refl _) (Nat.le_refl _) (by unfold barS; rw [← e_x_8, decide_eq_true ⟨c_17, c_33⟩]; rfl) rfl rfl
theorem ds_X3_isBarred : yX3_isBarred.cls ≠ "java/lang/invoke/MethodHandle" ∧ yX3_isBarred.cls ≠ "java/lang/invoke/VarHandle" ∧ (parseMethodDescriptor yX3_isBarred.desc).map (fun d => d.parameters.length) = some 3 := by decide +kernel
set_option maxHeartbeats 4000000 in
set_option maxRecDepth 100000 in
theorem c_X3_order (l : Launch) (D : gD) (B : Nat × Nat) (K : KS) (S : MS) (h : gHp) (n : Nat) (f : Int32) (i : Int32) (hS : MOK S) : Con l yX3_order (ws_ yX3_order cX3_order 10 (some .int)) ({ frames := 3, cells := 0, slots := 0, locals := 74 }) D B [.ref 20, .int f, .int i] (wd K S h) n (gdt (some (.int ((m_order S f i).2))) (wd K ((m_order S f i).1) h) n) 0 0 := by
  have b12 := hS.c12.2
  have b13 := hS.c13.2
  have b14 := hS.c14.2
  have b16 := hS.c16.2
  have b29 := hS.c29.2
  have b30 := hS.c30.2
  have b31 := hS.c31.2
  have b48 := hS.c48.2
  have b49 := hS.c49.2
  have b50 := hS.c50.2
  have b51 := hS.c51.2
  have b77 := hS.c77.2
  have b78 := hS.c78.2
  have b79 := hS.c79.2
  have b82 := hS.c82.2
  refine Con.begin [some (.ref 20), some (.int f), some (.int i), none, none, none, none, none, none, none] rfl rfl (Nat.le_of_ble_eq_true rfl) rfl rfl (fun X C R => ?_)
  refine g_aload_n C (pc := 0) dX3_order_0 rfl rfl ?_
  refine g_iconst C (pc := 1) (v := 0) dX3_order_1 (by decide) ?_
  refine m_puti C 0 (pc := 2) dX3_order_2 rfl q1193 rfl rfl rfl ?_
  refine g_aload_n C (pc := 5) dX3_order_5 rfl rfl ?_
  refine g_iload_n C (pc := 6) dX3_order_6 rfl ?_
  refine g_callVD C (pc := 7) [.int f] [] dX3_order_7 (c_X3_isFall l D B K (sI S 0 0) h n f ) (lw_V q1823 q1825 qs75 q87 q1826) (wd_20 _ _ _) rfl rfl ds_X3_isFall ⟨rfl, rfl⟩ ⟨Nat.le_of_ble_eq_true rfl, Nat.le_of_ble_eq_true rfl⟩ rfl rfl ⟨Nat.le_of_ble_eq_true rfl, Nat.le_of_ble_eq_true rfl⟩ (Nat.le_of_ble_eq_true rfl) rfl ?_
  refine g_if_eq C (pc := 10) (tgt := 17) dX3_order_10 (by decide) (fun c_10 => ?_) (fun c_10 => ?_)
  · skip
    have c_10 : ¬ (isFall S f) := p2i_0.mp c_10
    refine g_iconst C (pc := 17) (v := (-1)) dX3_order_17 (by decide) ?_
    exact g_iretD C R dX3_order_18 (Nat.le_refl _) (Nat.le_refl _) (by unfold m_order ordV; first | (rw [if_neg (by grind), ← e_x_33]; exact hfin) | (rw [if_pos (by grind)])) (congrArg (fun z => wd K z h) (by unfold m_order; first | (rw [if_neg (by grind)]; exact e_S_30) | (rw [if_pos (by grind)]))) rfl
  · skip
    have c_10 : (isFall S f) := p2i_n0.mp c_10
    refine g_iload_n C (pc := 13) dX3_order_13 rfl ?_
    refine g_if_ge C (pc := 14) (tgt := 19) dX3_order_14 (by decide) (fun c_14 => ?_) (fun c_14 => ?_)
    · skip
      refine g_aload_n C (pc := 19) dX3_order_19 rfl rfl ?_
      refine g_aload_n C (pc := 20) dX3_order_20 rfl rfl ?_
      refine m_geta C 80 74 (pc := 21) dX3_order_21 (by decide) (fun _ => rfl) q1273 rfl ?_
      refine g_iload_n C (pc := 24) dX3_order_24 rfl ?_
      refine m_iald C (pc := 25) (v := (S.2.1 74) ((f).toNatClampNeg)) dX3_order_25 (by decide) rfl (isFall.inr hS c_10) rfl ?_
      refine g_aload_n C (pc := 26) dX3_order_26 rfl rfl ?_
      refine m_geti C 1 (pc := 27) (v := S.1 1) dX3_order_27 rfl q1194 rfl rfl ?_
      refine g_callVD C (pc := 30) [.int ((S.2.1 74) ((f).toNatClampNeg)), .int (S.1 1)] [] dX3_order_30 (c_X3_gets l D B K (sI S 0 0) h n ((S.2.1 74) ((f).toNatClampNeg)) (S.1 1) (hS.setI 0 rfl)) (lw_V q1611 q1613 qs48 q87 q1614) (wd_20 _ _ _) rfl rfl ds_X3_gets ⟨rfl, rfl⟩ ⟨Nat.le_of_ble_eq_true rfl, Nat.le_of_ble_eq_true rfl⟩ rfl rfl ⟨Nat.le_of_ble_eq_true rfl, Nat.le_of_ble_eq_true rfl⟩ (Nat.le_of_ble_eq_true rfl) rfl ?_
      refine G.nmS (fun S_30 e_S_30 => ?_)
      refine G.topl (fun x_33 e_x_33 => ?_)
      have e_x_33 : x_33 = getsS S ((S.2.1 74) ((f).toNatClampNeg)) (S.1 1) := e_x_33
      refine g_lstore_n C (pc := 33) (L' := [some (.ref 20), some (.int f), some (.int i), some (.long x_33), none, none, none, none, none, none]) dX3_order_33 (by decide) rfl rfl ?_
      refine g_lconst C (pc := 34) (v := 0) dX3_order_34 (by decide) ?_
      refine g_lstore C (pc := 35) (L' := [some (.ref 20), some (.int f), some (.int i), some (.long x_33), none, some (.long 0), none, none, none, none]) dX3_order_35 (by decide) rfl rfl ?_
      refine g_iconst C (pc := 37) (v := 0) dX3_order_37 (by decide) ?_
      refine g_istore C (pc := 38) (L' := [some (.ref 20), some (.int f), some (.int i), some (.long x_33), none, some (.long 0), none, some (.int 0), none, none]) dX3_order_38 (by decide) rfl rfl ?_
      have hA : S_30.2.1 = S.2.1 := by rw [e_S_30]; rfl
      have hok : MOK S_30 := by rw [e_S_30]; exact hS.setI (f := 0) 0 rfl
      have hnk : mN S_30 13 = (mN S 13) := by rw [e_S_30]; rfl
      have hkk : (S_30.1 13) = nI (mN S 13) := by rw [e_S_30]; exact hS.c13.1
      have loop_40 : ∀ (d40 : Nat) (n2 : Nat) (z : Int64), (n2 ≤ 40) → (ordU (fun z => dnx (nextP S.2.1 (S.1 1) (mN S 29) x_33 z) (mN S 13) (mN S 13)) i (40 - n2) n2 z = ordU (fun z => dnx (nextP S.2.1 (S.1 1) (mN S 29) x_33 z) (mN S 13) (mN S 13)) i 40 0 0) → 40 - n2 < d40 → G X D B (wd K S_30 h) n 0 0 [some (.ref 20), some (.int f), some (.int i), some (.long x_33), none, some (.long z), none, some (.int (nI n2)), none, none] 40 [] := by
        intro d40
        induction d40 with
        | zero =>
          intro n2 z hn hz hm40
          exact absurd hm40 (Nat.not_lt_zero _)
        | succ d40 ih40 =>
          intro n2 z hn hz hm40
          refine g_iload C (pc := 40) dX3_order_40 rfl ?_
          refine g_bipush C (pc := 42) (v := 40) dX3_order_42 (by decide) ?_
          refine g_icmp_ge C (pc := 44) (tgt := 138) dX3_order_44 (by decide) (fun c_44 => ?_) (fun c_44 => ?_)
          · skip
            have c_44 : 40 ≤ n2 := Nat.not_lt.mp fun q => c_44 ((nI_ltI (a := n2) (b := 40) (by omega) (by omega)).mpr q)
            have hfin : (-1 : Int32) = ordU (fun z => dnx (nextP S.2.1 (S.1 1) (mN S 29) x_33 z) (mN S 13) (mN S 13)) i 40 0 0 := by rw [← hz, show 40 - n2 = 0 by omega]; rfl
            refine g_iconst C (pc := 138) (v := (-1)) dX3_order_138 (by decide) ?_
            exact g_iretD C R dX3_order_139 (Nat.le_refl _) (Nat.le_refl _) (by unfold m_order ordV; first | (rw [if_neg (by grind), ← e_x_33]; exact hfin) | (rw [if_pos (by grind)])) (congrArg (fun z => wd K z h) (by unfold m_order; first | (rw [if_neg (by grind)]; exact e_S_30) | (rw [if_pos (by grind)]))) rfl
          · skip
            have c_44 : n2 < 40 := (nI_ltI (a := n2) (b := 40) (by omega) (by omega)).mp c_44
            refine g_iconst C (pc := 47) (v := (-1)) dX3_order_47 (by decide) ?_
            refine g_istore C (pc := 48) (L' := [some (.ref 20), some (.int f), some (.int i), some (.long x_33), none, some (.long z), none, some (.int (nI n2)), some (.int (-1)), none]) dX3_order_48 (by decide) rfl rfl ?_
            refine g_aload_n C (pc := 50) dX3_order_50 rfl rfl ?_
            refine m_geti C 13 (pc := 51) (v := S_30.1 13) dX3_order_51 rfl q1206 rfl rfl ?_
            refine g_iconst C (pc := 54) (v := 1) dX3_order_54 (by decide) ?_
            refine g_isub C (pc := 55) dX3_order_55 ?_
            refine G.topi (fun x_56 e_x_56 => ?_)
            have e_x_56 : x_56 = (S_30.1 13) - 1 := e_x_56
            refine g_istore C (pc := 56) (L' := [some (.ref 20), some (.int f), some (.int i), some (.long x_33), none, some (.long z), none, some (.int (nI n2)), some (.int (-1)), some (.int x_56)]) dX3_order_56 (by decide) rfl rfl ?_
            have loop_58 : ∀ (d58 : Nat) (e : Nat) (x : Int32) (v : Int32), (e ≤ (mN S 13)) → (x = dnx (nextP S.2.1 (S.1 1) (mN S 29) x_33 z) (mN S 13) ((mN S 13) - e)) → (v = nI e - 1) → e < d58 → G X D B (wd K S_30 h) n 0 0 [some (.ref 20), some (.int f), some (.int i), some (.long x_33), none, some (.long z), none, some (.int (nI n2)), some (.int x), some (.int v)] 58 [] := by
              intro d58
              induction d58 with
              | zero =>
                intro e x v he hx hv hm58
                exact absurd hm58 (Nat.not_lt_zero _)
              | succ d58 ih58 =>
                intro e x v he hx hv hm58
                refine g_iload C (pc := 58) dX3_order_58 rfl ?_
                refine g_if_lt C (pc := 60) (tgt := 108) dX3_order_60 (by decide) (fun c_60 => ?_) (fun c_60 => ?_)
                · skip
                  have he0 : e = 0 := by rcases Nat.eq_zero_or_pos e with q | q; exact q; exact absurd c_60 (by rw [hv, show e = (e - 1) + 1 by omega, nI_pred]; exact nI_pos (by omega))
                  have hxd : x = dnx (nextP S.2.1 (S.1 1) (mN S 29) x_33 z) (mN S 13) (mN S 13) := by rw [hx, he0]; rfl
                  refine g_iload C (pc := 108) dX3_order_108 rfl ?_
                  refine g_iconst C (pc := 110) (v := (-1)) dX3_order_110 (by decide) ?_
                  refine g_icmp_eq C (pc := 111) (tgt := 120) dX3_order_111 (by decide) (fun c_111 => ?_) (fun c_111 => ?_)
                  · skip
                    have c_111 : ((x) : Int32) = -1 := c_111
                    refine g_iload C (pc := 120) dX3_order_120 rfl ?_
                    have hfin : x = ordU (fun z => dnx (nextP S.2.1 (S.1 1) (mN S 29) x_33 z) (mN S 13) (mN S 13)) i 40 0 0 := by rw [← hz, show 40 - n2 = (40 - (n2 + 1)) + 1 by omega]; simp only [ordU]; rw [if_pos (by grind), ← hxd]
                    exact g_iretD C R dX3_order_122 (Nat.le_refl _) (Nat.le_refl _) (by unfold m_order ordV; first | (rw [if_neg (by grind), ← e_x_33]; exact hfin) | (rw [if_pos (by grind)])) (congrArg (fun z => wd K z h) (by unfold m_order; first | (rw [if_neg (by grind)]; exact e_S_30) | (rw [if_pos (by grind)]))) rfl
                  · skip
                    have c_111 : ¬ ((x) : Int32) = -1 := c_111
                    refine g_iload C (pc := 114) dX3_order_114 rfl ?_
                    refine g_iload_n C (pc := 116) dX3_order_116 rfl ?_
                    refine g_icmp_ne C (pc := 117) (tgt := 123) dX3_order_117 (by decide) (fun c_117 => ?_) (fun c_117 => ?_)
                    · skip
                      have c_117 : ¬ ((nI n2) : Int32) = i := c_117
                      refine g_lload C (pc := 123) dX3_order_123 rfl ?_
                      refine g_lconst C (pc := 125) (v := 1) dX3_order_125 (by decide) ?_
                      refine g_iload C (pc := 126) dX3_order_126 rfl ?_
                      refine g_lshl C (pc := 128) (v := jlshl 1 x) dX3_order_128 rfl ?_
                      refine g_lor C (pc := 129) dX3_order_129 ?_
                      refine G.topl (fun x_130 e_x_130 => ?_)
                      have e_x_130 : x_130 = z ||| (jlshl 1 x) := e_x_130
                      refine g_lstore C (pc := 130) (L' := [some (.ref 20), some (.int f), some (.int i), some (.long x_33), none, some (.long x_130), none, some (.int (nI n2)), some (.int x), some (.int v)]) dX3_order_130 (by decide) rfl rfl ?_
                      refine g_iinc C (pc := 132) (v := nI (n2 + 1)) (L' := [some (.ref 20), some (.int f), some (.int i), some (.long x_33), none, some (.long x_130), none, some (.int (nI (n2 + 1))), some (.int x), some (.int v)]) dX3_order_132 rfl (nI_inc _) (by decide) rfl rfl ?_
                      refine g_goto C (pc := 135) (tgt := 40) dX3_order_135 (by decide) ?_
                      refine G.mask [true, true, true, true, false, true, false, true, false, false] rfl ?_
                      exact ih40 (n2 + 1) x_130 (by omega) (by rw [← hz, show 40 - n2 = (40 - (n2 + 1)) + 1 by omega]; simp only [ordU]; rw [if_neg (by grind), e_x_130, ← hxd]) (by omega)
                    · skip
                      have c_117 : ((nI n2) : Int32) = i := c_117
                      refine g_iload C (pc := 120) dX3_order_120 rfl ?_
                      have hfin : x = ordU (fun z => dnx (nextP S.2.1 (S.1 1) (mN S 29) x_33 z) (mN S 13) (mN S 13)) i 40 0 0 := by rw [← hz, show 40 - n2 = (40 - (n2 + 1)) + 1 by omega]; simp only [ordU]; rw [if_pos (by grind), ← hxd]
                      exact g_iretD C R dX3_order_122 (Nat.le_refl _) (Nat.le_refl _) (by unfold m_order ordV; first | (rw [if_neg (by grind), ← e_x_33]; exact hfin) | (rw [if_pos (by grind)])) (congrArg (fun z => wd K z h) (by unfold m_order; first | (rw [if_neg (by grind)]; exact e_S_30) | (rw [if_pos (by grind)]))) rfl
                · skip
                  obtain ⟨e, rfl⟩ : ∃ e2, e = e2 + 1 := ⟨e - 1, by rcases Nat.eq_zero_or_pos e with q | q; exact absurd (by rw [hv, q]; decide) c_60; omega⟩
                  rw [nI_pred] at hv
                  subst hv
                  refine g_lload_n C (pc := 63) dX3_order_63 rfl ?_
                  refine g_iload C (pc := 64) dX3_order_64 rfl ?_
                  refine g_lshr C (pc := 66) (v := jlshr x_33 (nI e)) dX3_order_66 rfl ?_
                  refine g_lconst C (pc := 67) (v := 1) dX3_order_67 (by decide) ?_
                  refine g_land C (pc := 68) dX3_order_68 ?_
                  refine g_lconst C (pc := 69) (v := 1) dX3_order_69 (by decide) ?_
                  refine g_lcmp C (pc := 70) dX3_order_70 ?_
                  refine g_if_ne C (pc := 71) (tgt := 102) dX3_order_71 (by decide) (fun c_71 => ?_) (fun c_71 => ?_)
                  · skip
                    have c_71 := lcmp_n0.mp c_71
                    refine g_iinc C (pc := 102) (v := (nI e) + (-1)) (L' := [some (.ref 20), some (.int f), some (.int i), some (.long x_33), none, some (.long z), none, some (.int (nI n2)), some (.int x), some (.int ((nI e) + (-1)))]) dX3_order_102 rfl rfl (by decide) rfl rfl ?_
                    refine g_goto C (pc := 105) (tgt := 58) dX3_order_105 (by decide) ?_
                    refine G.mask [true, true, true, true, false, true, false, true, true, true] rfl ?_
                    exact ih58 e x ((nI e) + (-1)) (by omega) (by rw [show (mN S 13) - e = ((mN S 13) - (e + 1)) + 1 by omega]; simp only [dnx]; rw [show (mN S 13) - 1 - ((mN S 13) - (e + 1)) = e by omega, ← hx]; unfold nextP; first | (rw [if_pos (by grind)]) | (rw [if_neg (by grind)])) ((Int32.sub_eq_add_neg _ _).symm) (by omega)
                  · skip
                    have c_71 := lcmp_0.mp c_71
                    refine g_lload C (pc := 74) dX3_order_74 rfl ?_
                    refine g_iload C (pc := 76) dX3_order_76 rfl ?_
                    refine g_lshr C (pc := 78) (v := jlshr z (nI e)) dX3_order_78 rfl ?_
                    refine g_lconst C (pc := 79) (v := 1) dX3_order_79 (by decide) ?_
                    refine g_land C (pc := 80) dX3_order_80 ?_
                    refine g_lconst C (pc := 81) (v := 0) dX3_order_81 (by decide) ?_
                    refine g_lcmp C (pc := 82) dX3_order_82 ?_
                    refine g_if_ne C (pc := 83) (tgt := 102) dX3_order_83 (by decide) (fun c_83 => ?_) (fun c_83 => ?_)
                    · skip
                      have c_83 := lcmp_n0.mp c_83
                      refine g_iinc C (pc := 102) (v := (nI e) + (-1)) (L' := [some (.ref 20), some (.int f), some (.int i), some (.long x_33), none, some (.long z), none, some (.int (nI n2)), some (.int x), some (.int ((nI e) + (-1)))]) dX3_order_102 rfl rfl (by decide) rfl rfl ?_
                      refine g_goto C (pc := 105) (tgt := 58) dX3_order_105 (by decide) ?_
                      refine G.mask [true, true, true, true, false, true, false, true, true, true] rfl ?_
                      exact ih58 e x ((nI e) + (-1)) (by omega) (by rw [show (mN S 13) - e = ((mN S 13) - (e + 1)) + 1 by omega]; simp only [dnx]; rw [show (mN S 13) - 1 - ((mN S 13) - (e + 1)) = e by omega, ← hx]; unfold nextP; first | (rw [if_pos (by grind)]) | (rw [if_neg (by grind)])) ((Int32.sub_eq_add_neg _ _).symm) (by omega)
                    · skip
                      have c_83 := lcmp_0.mp c_83
                      refine g_aload_n C (pc := 86) dX3_order_86 rfl rfl ?_
                      refine g_iload C (pc := 87) dX3_order_87 rfl ?_
                      refine g_lload_n C (pc := 89) dX3_order_89 rfl ?_
                      refine g_lload C (pc := 90) dX3_order_90 rfl ?_
                      refine g_callVD C (pc := 92) [.int (nI e), .long x_33, .long z] [] dX3_order_92 (c_X3_isBarred l D B K S_30 h n (nI e) x_33 z hok (vp_in_nI (by omega) (by decide))) (lw_V q1868 q1870 qs81 q87 q1871) (wd_20 _ _ _) rfl rfl ds_X3_isBarred ⟨rfl, rfl⟩ ⟨Nat.le_of_ble_eq_true rfl, Nat.le_of_ble_eq_true rfl⟩ rfl rfl ⟨Nat.le_of_ble_eq_true rfl, Nat.le_of_ble_eq_true rfl⟩ (Nat.le_of_ble_eq_true rfl) rfl ?_
                      refine g_if_ne C (pc := 95) (tgt := 102) dX3_order_95 (by decide) (fun c_95 => ?_) (fun c_95 => ?_)
                      · skip
                        have c_95 : (barS S_30.2.1 (S_30.1 1) (mN S_30 29) (nI e) x_33 z) = true := b2i_n0.mp c_95
                        have c_95 : barS S.2.1 (S.1 1) (mN S 29) (nI e) x_33 z = true := by rw [e_S_30] at c_95; exact c_95
                        refine g_iinc C (pc := 102) (v := (nI e) + (-1)) (L' := [some (.ref 20), some (.int f), some (.int i), some (.long x_33), none, some (.long z), none, some (.int (nI n2)), some (.int x), some (.int ((nI e) + (-1)))]) dX3_order_102 rfl rfl (by decide) rfl rfl ?_
                        refine g_goto C (pc := 105) (tgt := 58) dX3_order_105 (by decide) ?_
                        refine G.mask [true, true, true, true, false, true, false, true, true, true] rfl ?_
                        exact ih58 e x ((nI e) + (-1)) (by omega) (by rw [show (mN S 13) - e = ((mN S 13) - (e + 1)) + 1 by omega]; simp only [dnx]; rw [show (mN S 13) - 1 - ((mN S 13) - (e + 1)) = e by omega, ← hx]; unfold nextP; first | (rw [if_pos (by grind)]) | (rw [if_neg (by grind)])) ((Int32.sub_eq_add_neg _ _).symm) (by omega)
                      · skip
                        have c_95 : ¬ (barS S_30.2.1 (S_30.1 1) (mN S_30 29) (nI e) x_33 z) = true := b2i_0.mp c_95
                        have c_95 : ¬ barS S.2.1 (S.1 1) (mN S 29) (nI e) x_33 z = true := by rw [e_S_30] at c_95; exact c_95
                        refine g_iload C (pc := 98) dX3_order_98 rfl ?_
                        refine g_istore C (pc := 100) (L' := [some (.ref 20), some (.int f), some (.int i), some (.long x_33), none, some (.long z), none, some (.int (nI n2)), some (.int (nI e)), some (.int (nI e))]) dX3_order_100 (by decide) rfl rfl ?_
                        refine g_iinc C (pc := 102) (v := (nI e) + (-1)) (L' := [some (.ref 20), some (.int f), some (.int i), some (.long x_33), none, some (.long z), none, some (.int (nI n2)), some (.int (nI e)), some (.int ((nI e) + (-1)))]) dX3_order_102 rfl rfl (by decide) rfl rfl ?_
                        refine g_goto C (pc := 105) (tgt := 58) dX3_order_105 (by decide) ?_
                        refine G.mask [true, true, true, true, false, true, false, true, true, true] rfl ?_
                        exact ih58 e (nI e) ((nI e) + (-1)) (by omega) (by rw [show (mN S 13) - e = ((mN S 13) - (e + 1)) + 1 by omega]; simp only [dnx]; rw [show (mN S 13) - 1 - ((mN S 13) - (e + 1)) = e by omega, ← hx]; unfold nextP; first | (rw [if_pos (by grind)]) | (rw [if_neg (by grind)])) ((Int32.sub_eq_add_neg _ _).symm) (by omega)
            refine G.mask [true, true, true, true, false, true, false, true, true, true] rfl ?_
            exact loop_58 _ (mN S 13) (-1) x_56 (Nat.le_refl _) (by rw [Nat.sub_self]; rfl) (by rw [e_x_56, hkk]) (Nat.lt_succ_self _)
      refine G.mask [true, true, true, true, false, true, false, true, false, false] rfl ?_
      exact loop_40 _ 0 0 (Nat.zero_le _) (rfl) (Nat.lt_succ_self _)
    · skip
      refine g_iconst C (pc := 17) (v := (-1)) dX3_order_17 (by decide) ?_
      exact g_iretD C R dX3_order_18 (Nat.le_refl _) (Nat.le_refl _) (by unfold m_order ordV; first | (rw [if_neg (by grind), ← e_x_33]; exact hfin) | (rw [if_pos (by grind)])) (congrArg (fun z => wd K z h) (by unfold m_order; first | (rw [if_neg (by grind)]; exact e_S_30) | (rw [if_pos (by grind)]))) rfl
theorem ds_X3_order : yX3_order.cls ≠ "java/lang/invoke/MethodHandle" ∧ yX3_order.cls ≠ "java/lang/invoke/VarHandle" ∧ (parseMethodDescriptor yX3_order.desc).map (fun d => d.parameters.length) = some 2 := by decide +kernel
