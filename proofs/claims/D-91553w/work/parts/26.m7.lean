/-! MODEL, part 7: rules gone through -/
theorem numR_ge (S : MS) (s : Nat) (w : Int32) : s ≤ (numR S s w).1 := by
  unfold numR
  split
  · exact Nat.le_refl _
  · split
    · exact Nat.le_add_right _ _
    · split
      · show s ≤ s + ndg S s - 1; omega
      · exact Nat.le_add_right _ _
theorem bindP_ge {a0 : Nat} {r : Option PR} {k : Nat → Int32 → Bool → Option PR} {g : Bool → Bool} {q : PR} (h1 : bindP r k g = some q) (h2 : ∀ x, r = some x → a0 ≤ x.1) (h3 : ∀ a e b, a0 ≤ a → k a e b = some q → a0 ≤ q.1) : a0 ≤ q.1 := by
  obtain ⟨x, hx, h4⟩ := bindP_some h1
  rcases h4 with ⟨-, h4⟩ | ⟨-, h4⟩
  · exact h3 _ _ _ (h2 x hx) h4
  · rw [h4]; exact h2 x hx
theorem unitF_ge {S : MS} {R : Nat → Bool → Int32 → Int32 → Nat → Int32 → Option PR} (ih : ∀ mode b w c a e q, R mode b w c a e = some q → a ≤ q.1) {a : Nat} {e : Int32} {q : PR} (h : unitF S R a e = some q) : a ≤ q.1 := by
  have hs := sk_ge S a
  have hs2 := sk_ge S (skA S a + 1)
  have n1 := numR_ge S (skA S (skA S a + 1)) 11
  have n2 := numR_ge S (skA S (skA S a + 1)) 999
  have n3 := numR_ge S (skA S a) 999
  have hs3 := sk_ge S (numR S (skA S a) 999).1
  unfold unitF at h
  split at h
  · split at h
    · cases h; exact hs
    · obtain ⟨x, hx, e1⟩ := Option.map_eq_some_iff.mp h
      have z := ih _ _ _ _ _ _ _ hx
      rw [← e1]
      show a ≤ x.1
      omega
  split at h
  · split at h
    · cases h; exact hs
    · refine bindP_ge h (fun x hx => by have z := ih _ _ _ _ _ _ _ hx; omega) (fun a1 e b h1 h2 => ?_)
      have hs4 := sk_ge S a1
      split at h2
      · cases h2; show a ≤ skA S a1 + 1; omega
      · cases h2; show a ≤ skA S a1; omega
  split at h
  · cases h; show a ≤ (numR S (skA S (skA S a + 1)) 11).1; omega
  split at h
  · cases h; show a ≤ (numR S (skA S (skA S a + 1)) 999).1; omega
  split at h
  · cases h; show a ≤ (numR S (skA S a) 999).1; omega
  split at h
  · cases h; show a ≤ skA S (numR S (skA S a) 999).1; omega
  · exact bindP_ge h (fun x hx => by have z := ih _ _ _ _ _ _ _ hx; omega) (fun a e b h1 h2 => by have z := ih _ _ _ _ _ _ _ h2; omega)
theorem P_ge {S : MS} : ∀ n mode b w c a e q, P S n mode b w c a e = some q → a ≤ q.1 := by
  intro n
  induction n with
  | zero => intro mode b w c a e q h; cases h
  | succ n ih =>
    intro mode b w c a e q h
    have hs := sk_ge S a
    simp only [P] at h
    split at h
    · exact bindP_ge h (fun x hx => ih _ _ _ _ _ _ _ hx) (fun a e b h1 h2 => Nat.le_trans h1 (ih _ _ _ _ _ _ _ h2))
    split at h
    · exact bindP_ge h (fun x hx => ih _ _ _ _ _ _ _ hx) (fun a e b h1 h2 => Nat.le_trans h1 (ih _ _ _ _ _ _ _ h2))
    split at h
    · split at h
      · exact bindP_ge h (fun x hx => by have z := ih _ _ _ _ _ _ _ hx; omega) (fun a e b h1 h2 => Nat.le_trans h1 (ih _ _ _ _ _ _ _ h2))
      · cases h; exact hs
    split at h
    · split at h
      · exact bindP_ge h (fun x hx => by have z := ih _ _ _ _ _ _ _ hx; omega) (fun a e b h1 h2 => Nat.le_trans h1 (ih _ _ _ _ _ _ _ h2))
      · cases h; exact hs
    split at h
    · split at h
      · exact bindP_ge h (fun x hx => by have z := ih _ _ _ _ _ _ _ hx; omega) (fun a e b h1 h2 => Nat.le_trans h1 (ih _ _ _ _ _ _ _ h2))
      split at h
      · cases h; show a ≤ skA S a + 1; omega
      · cases h; exact hs
    exact unitF_ge (fun mode b w c a e q h => ih _ _ _ _ _ _ _ h) h
theorem bindP_tot {r : Option PR} {k : Nat → Int32 → Bool → Option PR} {g : Bool → Bool} (h1 : ∃ x, r = some x) (h2 : ∀ x, r = some x → ∃ q, k x.1 x.2.2.1 x.2.2.2 = some q) : ∃ q, bindP r k g = some q := by
  obtain ⟨x, hx⟩ := h1
  rw [hx]
  by_cases h : x.2.1 = -1
  · obtain ⟨q, hq⟩ := h2 x hx
    exact ⟨q, by simp only [bindP, if_pos h]; exact hq⟩
  · exact ⟨_, by simp only [bindP, if_neg h]; rfl⟩
/-- enough fuel -/
theorem P_tot {S : MS} : ∀ n mode b w c a e, 3 * ((mN S 54) - a) + (if mode = 0 then 3 else if mode = 1 then 2 else 1) ≤ n → ∃ q, P S n mode b w c a e = some q := by
  intro n
  induction n with
  | zero => intro mode b w c a e h; split at h <;> first | omega | (split at h <;> omega)
  | succ n ih =>
    intro mode b w c a e h
    have hs := sk_ge S a
    have n3 := numR_ge S (skA S a) 999
    have hs3 := sk_ge S (numR S (skA S a) 999).1
    have hm : ∀ mode2, (if mode2 = 0 then 3 else if mode2 = 1 then 2 else 1) ≤ 3 := fun m => by split <;> first | omega | (split <;> omega)
    have step : ∀ mode2 b w c a2 e, a < (mN S 54) → a + 1 ≤ a2 → ∃ q, P S n mode2 b w c a2 e = some q := fun mode2 b w c a2 e h1 h2 => ih _ _ _ _ _ _ (by have := hm mode2; split at h <;> first | omega | (split at h <;> omega))
    simp only [P]
    split
    · rename_i h0
      rw [if_pos h0] at h
      exact bindP_tot (ih _ _ _ _ _ _ (by rw [if_neg (by decide), if_pos rfl]; omega)) (fun x hx => ih _ _ _ _ _ _ (by rw [if_neg (by decide), if_neg (by decide)]; have := P_ge _ _ _ _ _ _ _ _ hx; omega))
    rename_i h0
    rw [if_neg h0] at h
    split
    · rename_i h1
      rw [if_pos h1] at h
      exact bindP_tot (ih _ _ _ _ _ _ (by rw [if_neg (by decide), if_neg (by decide)]; omega)) (fun x hx => ih _ _ _ _ _ _ (by rw [if_neg (by decide), if_neg (by decide)]; have := P_ge _ _ _ _ _ _ _ _ hx; omega))
    rename_i h1
    rw [if_neg h1] at h
    have nx : ∀ {m b w c e2} {x : PR} {a2}, P S n m b w c a2 e2 = some x → a + 1 ≤ a2 → a + 1 ≤ x.1 := fun hx h2 => Nat.le_trans h2 (P_ge _ _ _ _ _ _ _ _ hx)
    split
    · split
      · rename_i hl; have hl := look_lt hl (by decide)
        exact bindP_tot (step _ _ _ _ _ _ (by omega) (by omega)) (fun x hx => step _ _ _ _ _ _ (by omega) (nx hx (by omega)))
      · exact ⟨_, rfl⟩
    split
    · split
      · rename_i hl; have hl := look_lt hl (by decide)
        exact bindP_tot (step _ _ _ _ _ _ (by omega) (by omega)) (fun x hx => step _ _ _ _ _ _ (by omega) (nx hx (by omega)))
      · exact ⟨_, rfl⟩
    split
    · split
      · rename_i hl; have hl := look_lt hl (by decide)
        exact bindP_tot (step _ _ _ _ _ _ (by omega) (by omega)) (fun x hx => step _ _ _ _ _ _ (by omega) (nx hx (by omega)))
      split
      · exact ⟨_, rfl⟩
      · exact ⟨_, rfl⟩
    unfold unitF
    split
    · rename_i hl; have hl := look_lt hl (by decide)
      split
      · exact ⟨_, rfl⟩
      · obtain ⟨x, hx⟩ := step 2 false 0 0 (skA S a + 1) (e + 1) (by omega) (by omega)
        rw [hx]
        exact ⟨_, rfl⟩
    split
    · rename_i hl; have hl := look_lt hl (by decide)
      split
      · exact ⟨_, rfl⟩
      · refine bindP_tot (step _ _ _ _ _ _ (by omega) (by omega)) (fun x hx => ?_)
        split
        · exact ⟨_, rfl⟩
        · exact ⟨_, rfl⟩
    split
    · exact ⟨_, rfl⟩
    split
    · exact ⟨_, rfl⟩
    split
    · exact ⟨_, rfl⟩
    split
    · exact ⟨_, rfl⟩
    · rename_i hl; have hl := look_lt (Decidable.not_not.mp fun z => hl (Or.inl z)) (by decide)
      exact bindP_tot (step _ _ _ _ _ _ (by omega) (by omega)) (fun x hx => step _ _ _ _ _ _ (by omega) (nx hx (by omega)))
noncomputable def PT (S : MS) : PR := Classical.epsilon (fun q => P S 500 0 false 0 0 0 0 = some q)
theorem PT_eq {S : MS} (hT : TXT S) : P S 500 0 false 0 0 0 0 = some ((PT S).1, (PT S).2.1, (PT S).2.2.1, (PT S).2.2.2) := Classical.epsilon_spec (p := fun q => P S 500 0 false 0 0 0 0 = some q) (P_tot (S := S) 500 0 false 0 0 0 0 (by have := hT.e160; rw [if_pos rfl]; omega))
theorem PT_le {S : MS} (hT : TXT S) : (PT S).1 ≤ (mN S 54) := P_le _ _ _ _ _ _ _ _ (PT_eq hT) (Nat.zero_le _)
abbrev thrS (S : MS) (t : Nat) (b e : Int32) : MS := sI (sI (sT S t) 53 b) 54 e
theorem MOK.thr {S : MS} (h : MOK S) (t : Nat) (b e : Int32) : MOK (thrS S t b e) := ((show MOK (sT S t) from h).setI (f := 53) b rfl).setI (f := 54) e rfl
theorem TXT.thr {S : MS} {t b e N : Nat} (h1 : 21 ≤ t) (h2 : mty[t - 21]? = some (1, N)) (h3 : b + e ≤ N) (h4 : e ≤ 160) (h5 : N ≤ 3200) : TXT (thrS S t (nI b) (nI e)) := by
  have e1 : mN (thrS S t (nI b) (nI e)) 53 = b := by unfold mN; exact nI_clamp (by omega)
  have e2 : mN (thrS S t (nI b) (nI e)) 54 = e := by unfold mN; exact nI_clamp (by omega)
  refine ⟨by rw [e2]; rfl, by rw [e1]; rfl, by rw [e2]; exact h4, N, h1, h2, by rw [e1, e2]; exact h3, h5⟩
noncomputable def gth (S : MS) : Nat × Int32 × Int32 := if (PT S).2.1 = -1 then (skA S (PT S).1, (if lookV S (PT S).1 = -1 then -1 else nI (skA S (PT S).1)), (PT S).2.2.1) else ((PT S).1, (PT S).2.1, (PT S).2.2.1)
/-- a text gone through -/
noncomputable def gthS (S : MS) : MS := pS S (gth S).1 (gth S).2.1 (gth S).2.2

set_option maxHeartbeats 300000 in
set_option maxRecDepth 100000 in
theorem c_X3_goThrough (l : Launch) (D : gD) (B : Nat × Nat) (K : KS) (S : MS) (h : gHp) (n : Nat) (t : Nat) (b : Int32) (w : Int32) (hM : MOK S) (hT : TXT (thrS S t b w)) : Con l yX3_goThrough (ws_ yX3_goThrough cX3_goThrough 5 (some .boolean)) ({ frames := 505, cells := 0, slots := 0, locals := 20182 }) D B [.ref 20, .ref t, .int b, .int w] (wd K S h) n (gdt (some (.int (b2i (PT (thrS S t b w)).2.2.2))) (wd K (gthS (thrS S t b w)) h) n) 0 0 := by
  have hP := PT_eq hT
  have hle := PT_le hT
  refine Con.begin [some (.ref 20), some (.ref t), some (.int b), some (.int w), none] rfl rfl (Nat.le_of_ble_eq_true rfl) rfl rfl (fun X C R => ?_)
  refine g_aload_n C (pc := 0) dX3_goThrough_0 rfl rfl ?_
  refine g_aload_n C (pc := 1) dX3_goThrough_1 rfl rfl ?_
  refine m_putt C (pc := 2) dX3_goThrough_2 q1245 ?_
  refine g_aload_n C (pc := 5) dX3_goThrough_5 rfl rfl ?_
  refine g_iload_n C (pc := 6) dX3_goThrough_6 rfl ?_
  refine m_puti C 53 (pc := 7) dX3_goThrough_7 rfl q1246 rfl rfl rfl ?_
  refine g_aload_n C (pc := 10) dX3_goThrough_10 rfl rfl ?_
  refine g_iload_n C (pc := 11) dX3_goThrough_11 rfl ?_
  refine m_puti C 54 (pc := 12) dX3_goThrough_12 rfl q1247 rfl rfl rfl ?_
  refine g_aload_n C (pc := 15) dX3_goThrough_15 rfl rfl ?_
  refine g_iconst C (pc := 16) (v := 0) dX3_goThrough_16 (by decide) ?_
  refine m_puti C 55 (pc := 17) dX3_goThrough_17 rfl q1248 rfl rfl rfl ?_
  refine g_aload_n C (pc := 20) dX3_goThrough_20 rfl rfl ?_
  refine g_iconst C (pc := 21) (v := (-1)) dX3_goThrough_21 (by decide) ?_
  refine m_puti C 56 (pc := 22) dX3_goThrough_22 rfl q1249 rfl rfl rfl ?_
  refine g_aload_n C (pc := 25) dX3_goThrough_25 rfl rfl ?_
  refine g_iconst C (pc := 26) (v := 0) dX3_goThrough_26 (by decide) ?_
  refine m_puti C 57 (pc := 27) dX3_goThrough_27 rfl q1250 rfl rfl rfl ?_
  refine g_aload_n C (pc := 30) dX3_goThrough_30 rfl rfl ?_
  refine g_callVD C (pc := 31) [] [] dX3_goThrough_31 ((c_P l D B 500).1 K (thrS S t b w) h n 0 0 ((PT (thrS S t b w)).1) ((PT (thrS S t b w)).2.1) ((PT (thrS S t b w)).2.2.1) ((PT (thrS S t b w)).2.2.2)  (hM.thr t b w) hT (Nat.zero_le _) hP) (lw_V q1640 q1642 qs54 q87 q1643) (wd_20 _ _ _) rfl rfl ds_X3_any ⟨rfl, rfl⟩ ⟨Nat.le_of_ble_eq_true rfl, Nat.le_of_ble_eq_true rfl⟩ rfl rfl ⟨Nat.le_of_ble_eq_true rfl, Nat.le_of_ble_eq_true rfl⟩ (Nat.le_of_ble_eq_true rfl) rfl ?_
  refine g_istore C (pc := 34) (L' := [some (.ref 20), some (.ref t), some (.int b), some (.int w), some (.int (b2i ((PT (thrS S t b w)).2.2.2)))]) dX3_goThrough_34 (by decide) rfl rfl ?_
  refine g_aload_n C (pc := 36) dX3_goThrough_36 rfl rfl ?_
  refine m_geti C 56 (pc := 37) (v := ((PT (thrS S t b w)).2.1)) dX3_goThrough_37 rfl q1249 rfl rfl ?_
  refine g_iconst C (pc := 40) (v := (-1)) dX3_goThrough_40 (by decide) ?_
  refine g_icmp_ne C (pc := 41) (tgt := 57) dX3_goThrough_41 (by decide) (fun c_41 => ?_) (fun c_41 => ?_)
  · skip
    have c_41 : ¬ (((PT (thrS S t b w)).2.1) : Int32) = -1 := c_41
    refine g_iload C (pc := 57) dX3_goThrough_57 rfl ?_
    exact g_zretD C (b2i_nb _) R dX3_goThrough_59 (Nat.le_refl _) (Nat.le_refl _) (rfl) (congrArg (fun z => wd K z h) (by unfold gthS gth; first | (rw [if_neg c_41]) | (rw [if_pos c_41]; first | rw [if_pos c_49, c_41] | (rw [if_neg c_49, c_41]; rfl)))) rfl
  · skip
    have c_41 : (((PT (thrS S t b w)).2.1) : Int32) = -1 := c_41
    refine g_aload_n C (pc := 44) dX3_goThrough_44 rfl rfl ?_
    refine g_callVD C (pc := 45) [] [] dX3_goThrough_45 (c_X3_look l D B K (thrS S t b w) h n ((PT (thrS S t b w)).1) ((PT (thrS S t b w)).2.1) ((PT (thrS S t b w)).2.2.1)  hT hle) (lw_V q1652 q1654 qs57 q87 q1655) (wd_20 _ _ _) rfl rfl ds_X3_look ⟨rfl, rfl⟩ ⟨Nat.le_of_ble_eq_true rfl, Nat.le_of_ble_eq_true rfl⟩ rfl rfl ⟨Nat.le_of_ble_eq_true rfl, Nat.le_of_ble_eq_true rfl⟩ (Nat.le_of_ble_eq_true rfl) rfl ?_
    refine g_iconst C (pc := 48) (v := (-1)) dX3_goThrough_48 (by decide) ?_
    refine g_icmp_eq C (pc := 49) (tgt := 57) dX3_goThrough_49 (by decide) (fun c_49 => ?_) (fun c_49 => ?_)
    · skip
      have c_49 : ((lookV (thrS S t b w) ((PT (thrS S t b w)).1)) : Int32) = -1 := c_49
      refine g_iload C (pc := 57) dX3_goThrough_57 rfl ?_
      exact g_zretD C (b2i_nb _) R dX3_goThrough_59 (Nat.le_refl _) (Nat.le_refl _) (rfl) (congrArg (fun z => wd K z h) (by unfold gthS gth; first | (rw [if_neg c_41]) | (rw [if_pos c_41]; first | rw [if_pos c_49, c_41] | (rw [if_neg c_49, c_41]; rfl)))) rfl
    · skip
      have c_49 : ¬ ((lookV (thrS S t b w) ((PT (thrS S t b w)).1)) : Int32) = -1 := c_49
      refine g_aload_n C (pc := 52) dX3_goThrough_52 rfl rfl ?_
      refine g_callVD C (pc := 53) [] [] dX3_goThrough_53 (c_X3_stop l D B K (thrS S t b w) h n (skA (thrS S t b w) ((PT (thrS S t b w)).1)) ((PT (thrS S t b w)).2.1) ((PT (thrS S t b w)).2.2.1)  hT (by have := sk_le hle; omega)) (lw_V q1660 q1662 qs59 q87 q1663) (wd_20 _ _ _) rfl rfl ds_X3_stop ⟨rfl, rfl⟩ ⟨Nat.le_of_ble_eq_true rfl, Nat.le_of_ble_eq_true rfl⟩ rfl rfl ⟨Nat.le_of_ble_eq_true rfl, Nat.le_of_ble_eq_true rfl⟩ (Nat.le_of_ble_eq_true rfl) rfl ?_
      refine g_pop C (pc := 56) dX3_goThrough_56 rfl ?_
      refine g_iload C (pc := 57) dX3_goThrough_57 rfl ?_
      exact g_zretD C (b2i_nb _) R dX3_goThrough_59 (Nat.le_refl _) (Nat.le_refl _) (rfl) (congrArg (fun z => wd K z h) (by unfold gthS gth; first | (rw [if_neg c_41]) | (rw [if_pos c_41]; first | rw [if_pos c_49, c_41] | (rw [if_neg c_49, c_41]; rfl)))) rfl
theorem ds_X3_goThrough : yX3_goThrough.cls ≠ "java/lang/invoke/MethodHandle" ∧ yX3_goThrough.cls ≠ "java/lang/invoke/VarHandle" ∧ (parseMethodDescriptor yX3_goThrough.desc).map (fun d => d.parameters.length) = some 3 := by decide +kernel
theorem MOK.k_gthS {S : MS} (h : MOK S) : MOK (gthS S) := h.pS _ _ _
theorem nI_mul (a b : Nat) : nI a * nI b = nI (a * b) := (Int32.ofNat_mul a b).symm
theorem sI_ow (S : MS) (f : Nat) (x z : Int32) : sI (sI S f x) f z = sI S f z := by
  unfold sI
  congr 1
  funext j
  simp only [upd]
  split <;> rfl
abbrev hldS (S : MS) (r : Int32) : MS := thrS S 45 (160 * r) ((S.2.1 46) r.toNatClampNeg)
noncomputable def m_holds (S : MS) (r : Int32) : MS × Bool := (gthS (hldS S r), (PT (hldS S r)).2.2.2)
theorem TXT.hld {S : MS} (h : MOK S) {r : Int32} (hr : ∃ q, q < (mN S 48) ∧ r = nI q) : TXT (hldS S r) := by
  obtain ⟨q, hq, e⟩ := hr
  have h20 := h.c48.2
  obtain ⟨k, hk, ek⟩ := h.rule q hq
  unfold hldS
  rw [e, show (160 : Int32) = nI 160 from rfl, nI_mul, nI_clamp (by omega), ek]
  exact TXT.thr (by decide) (N := 3200) rfl (by omega) hk (by decide)
def drU (A : Nat → Nat → Int32) (h q : Int32) : Nat → Int32
  | 0 => -1
  | i + 1 => if A 47 i = h ∧ ¬ q < A 49 i then A 48 i else drU A h q i
theorem drU_rng (A : Nat → Nat → Int32) (h q : Int32) (n : Nat) : drU A h q n = -1 ∨ ∃ j, j < n ∧ drU A h q n = A 48 j := by
  induction n with
  | zero => exact Or.inl rfl
  | succ n ih =>
    simp only [drU]
    split
    · exact Or.inr ⟨n, by omega, rfl⟩
    · rcases ih with z | ⟨j, hj, z⟩
      · exact Or.inl z
      · exact Or.inr ⟨j, by omega, z⟩
theorem drU_y {A : Nat → Nat → Int32} {h q x : Int32} {i : Nat} (h1 : A 47 i = h) (h2 : ¬ q < A 49 i) (e : x = A 48 i) : x = drU A h q (i + 1) := by simp only [drU]; rw [if_pos ⟨h1, h2⟩]; exact e
theorem drU_n {A : Nat → Nat → Int32} {h q x : Int32} {i : Nat} (h1 : ¬ (A 47 i = h ∧ ¬ q < A 49 i)) (e : x = drU A h q i) : x = drU A h q (i + 1) := by simp only [drU]; rw [if_neg h1]; exact e
def fiU (A : Nat → Nat → Int32) (N : Nat) (h on q : Int32) : Nat → Int32
  | 0 => -1
  | i + 1 => if ¬ A 59 (N - 1 - i) = 0 ∧ A 54 (N - 1 - i) = h ∧ ¬ A 58 (N - 1 - i) = 0 ∧ ¬ on < A 55 (N - 1 - i) ∧ ¬ q < A 55 (N - 1 - i) then A 55 (N - 1 - i) else fiU A N h on q i
theorem fiU_y {A : Nat → Nat → Int32} {N e : Nat} {h on q x : Int32} (he : e + 1 ≤ N) (h1 : ¬ A 59 e = 0) (h2 : A 54 e = h) (h3 : ¬ A 58 e = 0) (h4 : ¬ on < A 55 e) (h5 : ¬ q < A 55 e) (ex : x = A 55 e) : x = fiU A N h on q (N - e) := by
  rw [show N - e = (N - (e + 1)) + 1 by omega]
  simp only [fiU]
  rw [show N - 1 - (N - (e + 1)) = e by omega, if_pos ⟨h1, h2, h3, h4, h5⟩]
  exact ex
theorem fiU_n {A : Nat → Nat → Int32} {N e : Nat} {h on q x : Int32} (he : e + 1 ≤ N) (h1 : ¬ (¬ A 59 e = 0 ∧ A 54 e = h ∧ ¬ A 58 e = 0 ∧ ¬ on < A 55 e ∧ ¬ q < A 55 e)) (ex : x = fiU A N h on q (N - (e + 1))) : x = fiU A N h on q (N - e) := by
  rw [show N - e = (N - (e + 1)) + 1 by omega]
  simp only [fiU]
  rw [show N - 1 - (N - (e + 1)) = e by omega, if_neg h1]
  exact ex
def fdT (S : MS) (h : Nat) (on q : Int32) : MS := sI (sI S 58 (nI h)) 61 (fiU S.2.1 (mN S 51) (nI h) on q (mN S 51))
noncomputable def fdN (S : MS) (h : Nat) (on q : Int32) : MS := if drU S.2.1 (nI h) q (mN S 49) = -1 then sE (fdT S h on q) 60 h 0 else sE (m_holds (fdT S h on q) (drU S.2.1 (nI h) q (mN S 49))).1 60 h (b2i (m_holds (fdT S h on q) (drU S.2.1 (nI h) q (mN S 49))).2)
noncomputable def fdS (S : MS) (on q : Int32) : Nat → MS
  | 0 => sI (sI (sI S 62 1) 59 on) 60 q
  | h + 1 => fdN (fdS S on q h) h on q
theorem MOK.k_holds {S : MS} (h : MOK S) (r : Int32) : MOK (m_holds S r).1 := (h.thr _ _ _).k_gthS
theorem MOK.k_fdT {S : MS} (hS : MOK S) (h : Nat) (on q : Int32) : MOK (fdT S h on q) := (hS.setI (f := 58) _ rfl).setI (f := 61) _ rfl
theorem MOK.k_fdN {S : MS} (hS : MOK S) (h : Nat) (on q : Int32) : MOK (fdN S h on q) := by
  unfold fdN
  split
  · exact (hS.k_fdT h on q).setE (a := 60) _ _ rfl
  · exact ((hS.k_fdT h on q).k_holds _).setE (a := 60) _ _ rfl
theorem MOK.k_fdS {S : MS} (hS : MOK S) (on q : Int32) (n : Nat) : MOK (fdS S on q n) := by
  induction n with
  | zero => exact ((hS.setI (f := 62) _ rfl).setI (f := 59) _ rfl).setI (f := 60) _ rfl
  | succ n ih => exact ih.k_fdN n on q
theorem holds_A (S : MS) (r : Int32) : (m_holds S r).1.2.1 = S.2.1 := rfl
theorem gthS_I (S : MS) {f : Nat} (hf : f < 52 ∨ 62 < f) : (gthS S).1 f = S.1 f := by
  unfold gthS pS
  rw [sI_ne _ _ (by omega), sI_ne _ _ (by omega), sI_ne _ _ (by omega)]
theorem holds_I (S : MS) (r : Int32) {f : Nat} (hf : f < 52 ∨ 62 < f) : (m_holds S r).1.1 f = S.1 f := by
  unfold m_holds
  rw [gthS_I _ hf]
  unfold hldS thrS
  rw [sI_ne _ _ (by omega), sI_ne _ _ (by omega)]
  rfl
theorem fdS_A (S : MS) (on q : Int32) (n : Nat) {A : Nat} (hA : A ≠ 60) : (fdS S on q n).2.1 A = S.2.1 A := by
  induction n with
  | zero => rfl
  | succ n ih =>
    rw [← ih]
    simp only [fdS]
    unfold fdN
    split
    · rw [sE_ne _ _ _ hA]; rfl
    · rw [sE_ne _ _ _ hA]; rfl
theorem fdS_I (S : MS) (on q : Int32) (n : Nat) {f : Nat} (hf : f < 52 ∨ 62 < f) : (fdS S on q n).1 f = S.1 f := by
  induction n with
  | zero => simp only [fdS]; rw [sI_ne _ _ (by omega), sI_ne _ _ (by omega), sI_ne _ _ (by omega)]
  | succ n ih =>
    rw [← ih]
    simp only [fdS]
    unfold fdN
    split
    · show (fdT _ n on q).1 f = _
      unfold fdT
      rw [sI_ne _ _ (by omega), sI_ne _ _ (by omega)]
    · show (m_holds (fdT _ n on q) _).1.1 f = _
      rw [holds_I _ _ hf]
      unfold fdT
      rw [sI_ne _ _ (by omega), sI_ne _ _ (by omega)]
abbrev askT (S : MS) (t on q : Int32) : Int32 := if ¬ (S.2.1 52) t.toNatClampNeg = -1 ∧ ¬ on < (S.2.1 52) t.toNatClampNeg ∧ ¬ q < (S.2.1 52) t.toNatClampNeg then (S.2.1 52) t.toNatClampNeg else -1
theorem askT_y {S S3 : MS} (hA : ∀ A, A ≠ 60 → S3.2.1 A = S.2.1 A) {t on q : Int32} (h1 : ¬ (S3.2.1 52) t.toNatClampNeg = -1) (h2 : ¬ on < (S3.2.1 52) t.toNatClampNeg) (h3 : ¬ q < (S3.2.1 52) t.toNatClampNeg) : askT S t on q = (S3.2.1 52) t.toNatClampNeg := by
  rw [hA _ (by decide)] at h1 h2 h3 ⊢
  exact if_pos ⟨h1, h2, h3⟩
theorem askT_n {S S3 : MS} (hA : ∀ A, A ≠ 60 → S3.2.1 A = S.2.1 A) {t on q : Int32} (h1 : ¬ (¬ (S3.2.1 52) t.toNatClampNeg = -1 ∧ ¬ on < (S3.2.1 52) t.toNatClampNeg ∧ ¬ q < (S3.2.1 52) t.toNatClampNeg)) : askT S t on q = -1 := by
  rw [hA _ (by decide)] at h1
  exact if_neg h1
noncomputable def hfT (S : MS) (t on q : Int32) : MS := sI (sI (sI (fdS S on q 12) 62 0) 58 t) 61 (askT S t on q)
theorem hfT_r (S : MS) (t on q : Int32) : mN (hfT S t on q) 48 = (mN S 48) := by
  unfold mN hfT
  rw [sI_ne _ _ (by decide), sI_ne _ _ (by decide), sI_ne _ _ (by decide), fdS_I _ _ _ _ (by decide)]
noncomputable def m_holdsFor (S : MS) (t on q : Int32) : MS × Bool := m_holds (hfT S t on q) ((S.2.1 51) t.toNatClampNeg)
def fltS (S : MS) : MS := thrS (sI (sI S 0 0) 62 1) 31 0 (nI (mN S 16))
noncomputable def m_fault (S : MS) : MS × Int32 := (gthS (fltS S), (gthS (fltS S)).1 56)
theorem TXT.flt {S : MS} (h : MOK S) : TXT (fltS S) := by
  unfold fltS
  rw [show (0 : Int32) = nI 0 from rfl]
  exact TXT.thr (by decide) (N := 160) rfl (by have := h.c16.2; omega) h.c16.2 (by decide)
theorem MOK.flt {S : MS} (h : MOK S) : MOK (m_fault S).1 := (((h.setI (f := 0) 0 rfl).setI (f := 62) 1 rfl).thr _ _ _).k_gthS
def cpyR (S : MS) (r : Nat) : Nat → MS
  | 0 => S
  | k + 1 => sE (cpyR S r k) 45 (160 * r + k) (n8 (n8 ((S.2.1 31) k)))
theorem cpyR_1 (S : MS) (r k : Nat) : (cpyR S r k).1 = S.1 := by
  induction k with
  | zero => rfl
  | succ k ih => exact ih
theorem cpyR_A (S : MS) (r k : Nat) {A : Nat} (hA : A ≠ 45) : (cpyR S r k).2.1 A = S.2.1 A := by
  induction k with
  | zero => rfl
  | succ k ih => simp only [cpyR]; rw [sE_ne _ _ _ hA]; exact ih
noncomputable def m_rule (S : MS) : MS × Int32 := if ¬ (m_fault S).2 = -1 ∨ (mN S 48) = 20 then ((m_fault S).1, -1) else (sI (sI (sE (cpyR (m_fault S).1 (mN S 48) (mN S 16)) 46 (mN S 48) (nI (mN S 16))) 48 (nI ((mN S 48) + 1))) 16 0, nI (mN S 48))
abbrev isRuled (S : MS) (t : Int32) : Prop := isThing S t ∧ ¬ nb ((S.2.1 56) t.toNatClampNeg) = 0
noncomputable def m_may (S : MS) (t on q : Int32) : MS × Int32 := if ¬ isRuled S t ∨ ¬ isIn on 0 2000 ∨ ¬ isIn q 0 (S.1 1) then ((sI S 0 0), -1) else ((m_holdsFor (sI S 0 0) t on q).1, b2i (m_holdsFor (sI S 0 0) t on q).2)
noncomputable def m_dead (S : MS) (h on q : Int32) : MS × Int32 := if ¬ isHolder S h ∨ ¬ isIn on 0 2000 ∨ ¬ isIn q 0 (S.1 1) then ((sI S 0 0), -1) else (fdS (sI S 0 0) on q 12, nb ((fdS (sI S 0 0) on q 12).2.1 60 h.toNatClampNeg))
noncomputable def m_unseal (S : MS) (t : Int32) : MS × Int32 := if ¬ isRuled S t then ((sI S 0 0), -1) else if ¬ (S.2.1 57) t.toNatClampNeg = 0 then ((sI S 0 0), 2) else (sE (m_holdsFor (sI S 0 0) t (S.1 1) (S.1 1)).1 57 t.toNatClampNeg (b2i (m_holdsFor (sI S 0 0) t (S.1 1) (S.1 1)).2), b2i (m_holdsFor (sI S 0 0) t (S.1 1) (S.1 1)).2)
theorem isRuled.ex {S : MS} (hM : MOK S) {t : Int32} (h : isRuled S t) : ∃ q, q < (mN S 48) ∧ (S.2.1 51) t.toNatClampNeg = nI q := by
  obtain ⟨j, hj, e⟩ := rng_nat hM.c50.1 (by have := hM.c50.2; omega) h.1
  have hb := hM.c50.2
  have hc : t.toNatClampNeg = j := by rw [e]; exact nI_clamp (by omega)
  rw [hc]
  exact hM.seal j hj (fun z => h.2 (by rw [hc, z]; rfl))

set_option maxHeartbeats 300000 in
set_option maxRecDepth 100000 in
theorem c_X3_holds (l : Launch) (D : gD) (B : Nat × Nat) (K : KS) (S : MS) (h : gHp) (n : Nat) (r : Int32) (hM : MOK S) (hr : ∃ q, q < (mN S 48) ∧ r = nI q) : Con l yX3_holds (ws_ yX3_holds cX3_holds 2 (some .boolean)) ({ frames := 506, cells := 0, slots := 0, locals := 20206 }) D B [.ref 20, .int r] (wd K S h) n (gdt (some (.int (b2i (m_holds S r).2))) (wd K ((m_holds S r).1) h) n) 0 0 := by
  refine Con.begin [some (.ref 20), some (.int r)] rfl rfl (Nat.le_of_ble_eq_true rfl) rfl rfl (fun X C R => ?_)
  refine g_aload_n C (pc := 0) dX3_holds_0 rfl rfl ?_
  refine g_aload_n C (pc := 1) dX3_holds_1 rfl rfl ?_
  refine m_geta C 33 45 (pc := 2) dX3_holds_2 (by decide) (fun _ => rfl) q1226 rfl ?_
  refine g_sipush C (pc := 5) (v := 160) dX3_holds_5 (by decide) ?_
  refine g_iload_n C (pc := 8) dX3_holds_8 rfl ?_
  refine g_imul C (pc := 9) dX3_holds_9 ?_
  refine g_aload_n C (pc := 10) dX3_holds_10 rfl rfl ?_
  refine m_geta C 34 46 (pc := 11) dX3_holds_11 (by decide) (fun _ => rfl) q1227 rfl ?_
  refine g_iload_n C (pc := 14) dX3_holds_14 rfl ?_
  refine m_iald C (pc := 15) (v := (S.2.1 46) ((r).toNatClampNeg)) dX3_holds_15 (by decide) rfl (by obtain ⟨q, hq, e⟩ := hr; rw [e]; exact vp_in_nI (by have := hM.c48.2; omega) (by decide)) rfl ?_
  refine g_callVD C (pc := 16) [.ref 45, .int (160 * r), .int ((S.2.1 46) ((r).toNatClampNeg))] [] dX3_holds_16 (c_X3_goThrough l D B K S h n 45 (160 * r) ((S.2.1 46) ((r).toNatClampNeg)) hM (TXT.hld hM hr)) (lw_V q1636 q1638 qs53 q87 q1639) (wd_20 _ _ _) rfl rfl ds_X3_goThrough ⟨rfl, rfl⟩ ⟨Nat.le_of_ble_eq_true rfl, Nat.le_of_ble_eq_true rfl⟩ rfl rfl ⟨Nat.le_of_ble_eq_true rfl, Nat.le_of_ble_eq_true rfl⟩ (Nat.le_of_ble_eq_true rfl) rfl ?_
  refine G.nmS (fun S_16 e_S_16 => ?_)
  exact g_zretD C (b2i_nb _) R dX3_holds_19 (Nat.le_refl _) (Nat.le_refl _) (rfl) (congrArg (fun z => wd K z h) (e_S_16)) rfl
theorem ds_X3_holds : yX3_holds.cls ≠ "java/lang/invoke/MethodHandle" ∧ yX3_holds.cls ≠ "java/lang/invoke/VarHandle" ∧ (parseMethodDescriptor yX3_holds.desc).map (fun d => d.parameters.length) = some 1 := by decide +kernel
set_option maxHeartbeats 300000 in
set_option maxRecDepth 100000 in
theorem c_X3_findDead (l : Launch) (D : gD) (B : Nat × Nat) (K : KS) (S : MS) (h : gHp) (n : Nat) (w : Int32) (q : Int32) (hM : MOK S) : Con l yX3_findDead (ws_ yX3_findDead cX3_findDead 6 none) ({ frames := 507, cells := 0, slots := 0, locals := 20227 }) D B [.ref 20, .int w, .int q] (wd K S h) n (gdt none (wd K (fdS S w q 12) h) n) 0 0 := by
  refine Con.begin [some (.ref 20), some (.int w), some (.int q), none, none, none] rfl rfl (Nat.le_of_ble_eq_true rfl) rfl rfl (fun X C R => ?_)
  refine g_aload_n C (pc := 0) dX3_findDead_0 rfl rfl ?_
  refine g_iconst C (pc := 1) (v := 1) dX3_findDead_1 (by decide) ?_
  refine m_putz C (pc := 2) dX3_findDead_2 q1255 rfl ?_
  refine g_aload_n C (pc := 5) dX3_findDead_5 rfl rfl ?_
  refine g_iload_n C (pc := 6) dX3_findDead_6 rfl ?_
  refine m_puti C 59 (pc := 7) dX3_findDead_7 rfl q1252 rfl rfl rfl ?_
  refine g_aload_n C (pc := 10) dX3_findDead_10 rfl rfl ?_
  refine g_iload_n C (pc := 11) dX3_findDead_11 rfl ?_
  refine m_puti C 60 (pc := 12) dX3_findDead_12 rfl q1253 rfl rfl rfl ?_
  refine g_iconst C (pc := 15) (v := 0) dX3_findDead_15 (by decide) ?_
  refine g_istore_n C (pc := 16) (L' := [some (.ref 20), some (.int w), some (.int q), some (.int 0), none, none]) dX3_findDead_16 (by decide) rfl rfl ?_
  have loop_17 : ∀ (d17 : Nat) (i : Nat) (S2 : MS), (i ≤ 12) → (S2 = fdS S w q i) → (MOK S2) → 12 - i < d17 → G X D B (wd K S2 h) n 0 0 [some (.ref 20), some (.int w), some (.int q), some (.int (nI i)), none, none] 17 [] := by
    intro d17
    induction d17 with
    | zero =>
      intro i S2 hi hS2 hM2 hm17
      exact absurd hm17 (Nat.not_lt_zero _)
    | succ d17 ih17 =>
      intro i S2 hi hS2 hM2 hm17
      have d49 := hM2.c49.2
      have d51 := hM2.c51.2
      refine g_iload_n C (pc := 17) dX3_findDead_17 rfl ?_
      refine g_bipush C (pc := 18) (v := 12) dX3_findDead_18 (by decide) ?_
      refine g_icmp_ge C (pc := 20) (tgt := 200) dX3_findDead_20 (by decide) (fun c_20 => ?_) (fun c_20 => ?_)
      · skip
        have c_20 : 12 ≤ i := Nat.not_lt.mp fun q => c_20 ((nI_ltI (a := i) (b := 12) (by omega) (by omega)).mpr q)
        exact g_vretD C R dX3_findDead_200 (Nat.le_refl _) (Nat.le_refl _) (congrArg (fun z => wd K z h) (by rw [hS2, show i = 12 by omega])) rfl
      · skip
        have c_20 : i < 12 := (nI_ltI (a := i) (b := 12) (by omega) (by omega)).mp c_20
        refine g_iconst C (pc := 23) (v := (-1)) dX3_findDead_23 (by decide) ?_
        refine g_istore C (pc := 24) (L' := [some (.ref 20), some (.int w), some (.int q), some (.int (nI i)), some (.int (-1)), none]) dX3_findDead_24 (by decide) rfl rfl ?_
        refine g_iconst C (pc := 26) (v := 0) dX3_findDead_26 (by decide) ?_
        refine g_istore C (pc := 27) (L' := [some (.ref 20), some (.int w), some (.int q), some (.int (nI i)), some (.int (-1)), some (.int 0)]) dX3_findDead_27 (by decide) rfl rfl ?_
        have loop_29 : ∀ (d29 : Nat) (j : Nat) (r : Int32), (j ≤ mN S2 49) → (r = drU S2.2.1 (nI i) q j) → mN S2 49 - j < d29 → G X D B (wd K S2 h) n 0 0 [some (.ref 20), some (.int w), some (.int q), some (.int (nI i)), some (.int r), some (.int (nI j))] 29 [] := by
          intro d29
          induction d29 with
          | zero =>
            intro j r hj hr hm29
            exact absurd hm29 (Nat.not_lt_zero _)
          | succ d29 ih29 =>
            intro j r hj hr hm29
            refine g_iload C (pc := 29) dX3_findDead_29 rfl ?_
            refine g_aload_n C (pc := 31) dX3_findDead_31 rfl rfl ?_
            refine m_geti C 49 (pc := 32) (v := nI (mN S2 49)) dX3_findDead_32 rfl q1242 rfl hM2.c49.1 ?_
            refine g_icmp_ge C (pc := 35) (tgt := 75) dX3_findDead_35 (by decide) (fun c_35 => ?_) (fun c_35 => ?_)
            · skip
              have c_35 : (mN S2 49) ≤ j := Nat.not_lt.mp fun q => c_35 ((nI_ltI (a := j) (b := (mN S2 49)) (by omega) (by omega)).mpr q)
              have hr2 : r = drU S2.2.1 (nI i) q (mN S2 49) := by rw [hr, show j = mN S2 49 by omega]
              refine g_aload_n C (pc := 75) dX3_findDead_75 rfl rfl ?_
              refine g_iload_n C (pc := 76) dX3_findDead_76 rfl ?_
              refine m_puti C 58 (pc := 77) dX3_findDead_77 rfl q1251 rfl rfl rfl ?_
              refine g_aload_n C (pc := 80) dX3_findDead_80 rfl rfl ?_
              refine g_iconst C (pc := 81) (v := (-1)) dX3_findDead_81 (by decide) ?_
              refine m_puti C 61 (pc := 82) dX3_findDead_82 rfl q1254 rfl rfl rfl ?_
              refine g_aload_n C (pc := 85) dX3_findDead_85 rfl rfl ?_
              refine m_geti C 51 (pc := 86) (v := nI (mN S2 51)) dX3_findDead_86 rfl q1244 rfl hM2.c51.1 ?_
              refine g_iconst C (pc := 89) (v := 1) dX3_findDead_89 (by decide) ?_
              refine g_isub C (pc := 90) dX3_findDead_90 ?_
              refine G.topi (fun x_91 e_x_91 => ?_)
              have e_x_91 : x_91 = (nI (mN S2 51)) - 1 := e_x_91
              refine g_istore C (pc := 91) (L' := [some (.ref 20), some (.int w), some (.int q), some (.int (nI i)), some (.int r), some (.int x_91)]) dX3_findDead_91 (by decide) rfl rfl ?_
              have loop_93 : ∀ (d93 : Nat) (e : Nat) (v : Int32) (S3 : MS), (e ≤ mN S2 51) → (S3.1 61 = fiU S2.2.1 (mN S2 51) (nI i) w q (mN S2 51 - e)) → (v = nI e - 1) → (S3 = sI (sI S2 58 (nI i)) 61 (S3.1 61)) → e < d93 → G X D B (wd K S3 h) n 0 0 [some (.ref 20), some (.int w), some (.int q), some (.int (nI i)), some (.int r), some (.int v)] 93 [] := by
                intro d93
                induction d93 with
                | zero =>
                  intro e v S3 he hx hv hS3 hm93
                  exact absurd hm93 (Nat.not_lt_zero _)
                | succ d93 ih93 =>
                  intro e v S3 he hx hv hS3 hm93
                  have hA : S3.2.1 = S2.2.1 := by rw [hS3]; rfl
                  refine g_iload C (pc := 93) dX3_findDead_93 rfl ?_
                  refine g_if_lt C (pc := 95) (tgt := 168) dX3_findDead_95 (by decide) (fun c_95 => ?_) (fun c_95 => ?_)
                  · skip
                    have he0 : e = 0 := by rcases Nat.eq_zero_or_pos e with z | z; exact z; exact absurd c_95 (by rw [hv, show e = (e - 1) + 1 by omega, nI_pred]; exact nI_pos (by omega))
                    have hT3 : S3 = fdT S2 i w q := by rw [hS3, hx, he0]; rfl
                    have hM3 : MOK S3 := by rw [hT3]; exact hM2.k_fdT i w q
                    refine g_aload_n C (pc := 168) dX3_findDead_168 rfl rfl ?_
                    refine m_geta C 63 60 (pc := 169) dX3_findDead_169 (by decide) (fun _ => rfl) q1256 rfl ?_
                    refine g_iload_n C (pc := 172) dX3_findDead_172 rfl ?_
                    refine g_iload C (pc := 173) dX3_findDead_173 rfl ?_
                    refine g_iconst C (pc := 175) (v := (-1)) dX3_findDead_175 (by decide) ?_
                    refine g_icmp_eq C (pc := 176) (tgt := 192) dX3_findDead_176 (by decide) (fun c_176 => ?_) (fun c_176 => ?_)
                    · skip
                      have c_176 : ((r) : Int32) = -1 := c_176
                      refine g_iconst C (pc := 192) (v := 0) dX3_findDead_192 (by decide) ?_
                      have hnx : sE S3 60 i 0 = fdN S2 i w q := by unfold fdN; rw [← hr2]; first | (rw [if_pos c_176, hT3]; done) | (rw [if_neg c_176, ← hT3, e_S_182, b2i_t c_185]; done) | (rw [if_neg c_176, ← hT3, e_S_182, b2i_f c_185]; done)
                      refine m_zast C (pc := 193) (j := i) dX3_findDead_193 (by decide) rfl (vp_in_nI (by omega) (by decide)) (nI_clamp (by omega)) rfl ?_
                      refine g_iinc C (pc := 194) (v := nI (i + 1)) (L' := [some (.ref 20), some (.int w), some (.int q), some (.int (nI (i + 1))), some (.int r), some (.int v)]) dX3_findDead_194 rfl (nI_inc _) (by decide) rfl rfl ?_
                      refine g_goto C (pc := 197) (tgt := 17) dX3_findDead_197 (by decide) ?_
                      refine G.mask [true, true, true, true, false, false] rfl ?_
                      exact ih17 (i + 1) (sE S3 60 i 0) (by omega) (by simp only [fdS]; rw [← hS2]; exact hnx) (by rw [hnx]; exact hM2.k_fdN i w q) (by omega)
                    · skip
                      have c_176 : ¬ ((r) : Int32) = -1 := c_176
                      refine g_aload_n C (pc := 179) dX3_findDead_179 rfl rfl ?_
                      refine g_iload C (pc := 180) dX3_findDead_180 rfl ?_
                      refine g_callVD C (pc := 182) [.int r] [.int (nI i), .ref 60] dX3_findDead_182 (c_X3_holds l D B K S3 h n r hM3 (by rcases drU_rng S2.2.1 (nI i) q (mN S2 49) with z | ⟨k, hk, z⟩; exact absurd (hr2.trans z) c_176; obtain ⟨y, hy, ey⟩ := hM2.death k hk; exact ⟨y, by rw [hS3]; exact hy, by rw [hr2, z, ey]⟩)) (lw_V q1736 q1738 qs70 q87 q1739) (wd_20 _ _ _) rfl rfl ds_X3_holds ⟨rfl, rfl⟩ ⟨Nat.le_of_ble_eq_true rfl, Nat.le_of_ble_eq_true rfl⟩ rfl rfl ⟨Nat.le_of_ble_eq_true rfl, Nat.le_of_ble_eq_true rfl⟩ (Nat.le_of_ble_eq_true rfl) rfl ?_
                      refine G.nmS (fun S_182 e_S_182 => ?_)
                      refine g_if_eq C (pc := 185) (tgt := 192) dX3_findDead_185 (by decide) (fun c_185 => ?_) (fun c_185 => ?_)
                      · skip
                        have c_185 : ¬ ((m_holds S3 r).2) = true := b2i_0.mp c_185
                        refine g_iconst C (pc := 192) (v := 0) dX3_findDead_192 (by decide) ?_
                        have hnx : sE S_182 60 i 0 = fdN S2 i w q := by unfold fdN; rw [← hr2]; first | (rw [if_pos c_176, hT3]; done) | (rw [if_neg c_176, ← hT3, e_S_182, b2i_t c_185]; done) | (rw [if_neg c_176, ← hT3, e_S_182, b2i_f c_185]; done)
                        refine m_zast C (pc := 193) (j := i) dX3_findDead_193 (by decide) rfl (vp_in_nI (by omega) (by decide)) (nI_clamp (by omega)) rfl ?_
                        refine g_iinc C (pc := 194) (v := nI (i + 1)) (L' := [some (.ref 20), some (.int w), some (.int q), some (.int (nI (i + 1))), some (.int r), some (.int v)]) dX3_findDead_194 rfl (nI_inc _) (by decide) rfl rfl ?_
                        refine g_goto C (pc := 197) (tgt := 17) dX3_findDead_197 (by decide) ?_
                        refine G.mask [true, true, true, true, false, false] rfl ?_
                        exact ih17 (i + 1) (sE S_182 60 i 0) (by omega) (by simp only [fdS]; rw [← hS2]; exact hnx) (by rw [hnx]; exact hM2.k_fdN i w q) (by omega)
                      · skip
                        have c_185 : ((m_holds S3 r).2) = true := b2i_n0.mp c_185
                        refine g_iconst C (pc := 188) (v := 1) dX3_findDead_188 (by decide) ?_
                        refine g_goto C (pc := 189) (tgt := 193) dX3_findDead_189 (by decide) ?_
                        have hnx : sE S_182 60 i 1 = fdN S2 i w q := by unfold fdN; rw [← hr2]; first | (rw [if_pos c_176, hT3]; done) | (rw [if_neg c_176, ← hT3, e_S_182, b2i_t c_185]; done) | (rw [if_neg c_176, ← hT3, e_S_182, b2i_f c_185]; done)
                        refine m_zast C (pc := 193) (j := i) dX3_findDead_193 (by decide) rfl (vp_in_nI (by omega) (by decide)) (nI_clamp (by omega)) rfl ?_
                        refine g_iinc C (pc := 194) (v := nI (i + 1)) (L' := [some (.ref 20), some (.int w), some (.int q), some (.int (nI (i + 1))), some (.int r), some (.int v)]) dX3_findDead_194 rfl (nI_inc _) (by decide) rfl rfl ?_
                        refine g_goto C (pc := 197) (tgt := 17) dX3_findDead_197 (by decide) ?_
                        refine G.mask [true, true, true, true, false, false] rfl ?_
                        exact ih17 (i + 1) (sE S_182 60 i 1) (by omega) (by simp only [fdS]; rw [← hS2]; exact hnx) (by rw [hnx]; exact hM2.k_fdN i w q) (by omega)
                  · skip
                    obtain ⟨e, rfl⟩ : ∃ e2, e = e2 + 1 := ⟨e - 1, by rcases Nat.eq_zero_or_pos e with z | z; exact absurd (by rw [hv, z]; decide) c_95; omega⟩
                    rw [nI_pred] at hv
                    subst hv
                    refine g_aload_n C (pc := 98) dX3_findDead_98 rfl rfl ?_
                    refine m_geta C 47 59 (pc := 99) dX3_findDead_99 (by decide) (fun _ => rfl) q1240 rfl ?_
                    refine g_iload C (pc := 102) dX3_findDead_102 rfl ?_
                    refine m_zald C (pc := 104) (v := nb ((S3.2.1 59) e)) dX3_findDead_104 (by decide) rfl (vp_in_nI (by omega) (by decide)) (congrArg nb (gix (S3.2.1 59) (by omega))) ?_
                    refine g_if_eq C (pc := 105) (tgt := 162) dX3_findDead_105 (by decide) (fun c_105 => ?_) (fun c_105 => ?_)
                    · skip
                      have c_105 := nb_0.mp c_105
                      refine g_iinc C (pc := 162) (v := (nI e) + (-1)) (L' := [some (.ref 20), some (.int w), some (.int q), some (.int (nI i)), some (.int r), some (.int ((nI e) + (-1)))]) dX3_findDead_162 rfl rfl (by decide) rfl rfl ?_
                      refine g_goto C (pc := 165) (tgt := 93) dX3_findDead_165 (by decide) ?_
                      refine G.mask [true, true, true, true, true, true] rfl ?_
                      exact ih93 e ((nI e) + (-1)) S3 (by omega) (by rw [← hA]; first | exact fiU_n he (fun z => z.1 c_105) (by rw [hA]; exact hx) | exact fiU_n he (fun z => c_116 z.2.1) (by rw [hA]; exact hx) | exact fiU_n he (fun z => z.2.2.1 c_126) (by rw [hA]; exact hx) | exact fiU_n he (fun z => z.2.2.2.1 c_137) (by rw [hA]; exact hx) | exact fiU_n he (fun z => z.2.2.2.2 c_148) (by rw [hA]; exact hx) | exact fiU_y he c_105 c_116 c_126 c_137 c_148 e_x_159) ((Int32.sub_eq_add_neg _ _).symm) (by first | exact hS3 | (show sI S3 61 x_159 = sI _ 61 x_159; rw [hS3]; exact sI_ow _ _ _ _)) (by omega)
                    · skip
                      have c_105 := nb_n0.mp c_105
                      refine g_aload_n C (pc := 108) dX3_findDead_108 rfl rfl ?_
                      refine m_geta C 42 54 (pc := 109) dX3_findDead_109 (by decide) (fun _ => rfl) q1235 rfl ?_
                      refine g_iload C (pc := 112) dX3_findDead_112 rfl ?_
                      refine m_iald C (pc := 114) (v := (S3.2.1 54) e) dX3_findDead_114 (by decide) rfl (vp_in_nI (by omega) (by decide)) (gix (S3.2.1 54) (by omega)) ?_
                      refine g_iload_n C (pc := 115) dX3_findDead_115 rfl ?_
                      refine g_icmp_ne C (pc := 116) (tgt := 162) dX3_findDead_116 (by decide) (fun c_116 => ?_) (fun c_116 => ?_)
                      · skip
                        have c_116 : ¬ (((S3.2.1 54) e) : Int32) = (nI i) := c_116
                        refine g_iinc C (pc := 162) (v := (nI e) + (-1)) (L' := [some (.ref 20), some (.int w), some (.int q), some (.int (nI i)), some (.int r), some (.int ((nI e) + (-1)))]) dX3_findDead_162 rfl rfl (by decide) rfl rfl ?_
                        refine g_goto C (pc := 165) (tgt := 93) dX3_findDead_165 (by decide) ?_
                        refine G.mask [true, true, true, true, true, true] rfl ?_
                        exact ih93 e ((nI e) + (-1)) S3 (by omega) (by rw [← hA]; first | exact fiU_n he (fun z => z.1 c_105) (by rw [hA]; exact hx) | exact fiU_n he (fun z => c_116 z.2.1) (by rw [hA]; exact hx) | exact fiU_n he (fun z => z.2.2.1 c_126) (by rw [hA]; exact hx) | exact fiU_n he (fun z => z.2.2.2.1 c_137) (by rw [hA]; exact hx) | exact fiU_n he (fun z => z.2.2.2.2 c_148) (by rw [hA]; exact hx) | exact fiU_y he c_105 c_116 c_126 c_137 c_148 e_x_159) ((Int32.sub_eq_add_neg _ _).symm) (by first | exact hS3 | (show sI S3 61 x_159 = sI _ 61 x_159; rw [hS3]; exact sI_ow _ _ _ _)) (by omega)
                      · skip
                        have c_116 : (((S3.2.1 54) e) : Int32) = (nI i) := c_116
                        refine g_aload_n C (pc := 119) dX3_findDead_119 rfl rfl ?_
                        refine m_geta C 46 58 (pc := 120) dX3_findDead_120 (by decide) (fun _ => rfl) q1239 rfl ?_
                        refine g_iload C (pc := 123) dX3_findDead_123 rfl ?_
                        refine m_zald C (pc := 125) (v := nb ((S3.2.1 58) e)) dX3_findDead_125 (by decide) rfl (vp_in_nI (by omega) (by decide)) (congrArg nb (gix (S3.2.1 58) (by omega))) ?_
                        refine g_if_eq C (pc := 126) (tgt := 162) dX3_findDead_126 (by decide) (fun c_126 => ?_) (fun c_126 => ?_)
                        · skip
                          have c_126 := nb_0.mp c_126
                          refine g_iinc C (pc := 162) (v := (nI e) + (-1)) (L' := [some (.ref 20), some (.int w), some (.int q), some (.int (nI i)), some (.int r), some (.int ((nI e) + (-1)))]) dX3_findDead_162 rfl rfl (by decide) rfl rfl ?_
                          refine g_goto C (pc := 165) (tgt := 93) dX3_findDead_165 (by decide) ?_
                          refine G.mask [true, true, true, true, true, true] rfl ?_
                          exact ih93 e ((nI e) + (-1)) S3 (by omega) (by rw [← hA]; first | exact fiU_n he (fun z => z.1 c_105) (by rw [hA]; exact hx) | exact fiU_n he (fun z => c_116 z.2.1) (by rw [hA]; exact hx) | exact fiU_n he (fun z => z.2.2.1 c_126) (by rw [hA]; exact hx) | exact fiU_n he (fun z => z.2.2.2.1 c_137) (by rw [hA]; exact hx) | exact fiU_n he (fun z => z.2.2.2.2 c_148) (by rw [hA]; exact hx) | exact fiU_y he c_105 c_116 c_126 c_137 c_148 e_x_159) ((Int32.sub_eq_add_neg _ _).symm) (by first | exact hS3 | (show sI S3 61 x_159 = sI _ 61 x_159; rw [hS3]; exact sI_ow _ _ _ _)) (by omega)
                        · skip
                          have c_126 := nb_n0.mp c_126
                          refine g_aload_n C (pc := 129) dX3_findDead_129 rfl rfl ?_
                          refine m_geta C 43 55 (pc := 130) dX3_findDead_130 (by decide) (fun _ => rfl) q1236 rfl ?_
                          refine g_iload C (pc := 133) dX3_findDead_133 rfl ?_
                          refine m_iald C (pc := 135) (v := (S3.2.1 55) e) dX3_findDead_135 (by decide) rfl (vp_in_nI (by omega) (by decide)) (gix (S3.2.1 55) (by omega)) ?_
                          refine g_iload_n C (pc := 136) dX3_findDead_136 rfl ?_
                          refine g_icmp_gt C (pc := 137) (tgt := 162) dX3_findDead_137 (by decide) (fun c_137 => ?_) (fun c_137 => ?_)
                          · skip
                            have c_137 : ((w) : Int32) < ((S3.2.1 55) e) := c_137
                            refine g_iinc C (pc := 162) (v := (nI e) + (-1)) (L' := [some (.ref 20), some (.int w), some (.int q), some (.int (nI i)), some (.int r), some (.int ((nI e) + (-1)))]) dX3_findDead_162 rfl rfl (by decide) rfl rfl ?_
                            refine g_goto C (pc := 165) (tgt := 93) dX3_findDead_165 (by decide) ?_
                            refine G.mask [true, true, true, true, true, true] rfl ?_
                            exact ih93 e ((nI e) + (-1)) S3 (by omega) (by rw [← hA]; first | exact fiU_n he (fun z => z.1 c_105) (by rw [hA]; exact hx) | exact fiU_n he (fun z => c_116 z.2.1) (by rw [hA]; exact hx) | exact fiU_n he (fun z => z.2.2.1 c_126) (by rw [hA]; exact hx) | exact fiU_n he (fun z => z.2.2.2.1 c_137) (by rw [hA]; exact hx) | exact fiU_n he (fun z => z.2.2.2.2 c_148) (by rw [hA]; exact hx) | exact fiU_y he c_105 c_116 c_126 c_137 c_148 e_x_159) ((Int32.sub_eq_add_neg _ _).symm) (by first | exact hS3 | (show sI S3 61 x_159 = sI _ 61 x_159; rw [hS3]; exact sI_ow _ _ _ _)) (by omega)
                          · skip
                            have c_137 : ¬ ((w) : Int32) < ((S3.2.1 55) e) := c_137
                            refine g_aload_n C (pc := 140) dX3_findDead_140 rfl rfl ?_
                            refine m_geta C 43 55 (pc := 141) dX3_findDead_141 (by decide) (fun _ => rfl) q1236 rfl ?_
                            refine g_iload C (pc := 144) dX3_findDead_144 rfl ?_
                            refine m_iald C (pc := 146) (v := (S3.2.1 55) e) dX3_findDead_146 (by decide) rfl (vp_in_nI (by omega) (by decide)) (gix (S3.2.1 55) (by omega)) ?_
                            refine g_iload_n C (pc := 147) dX3_findDead_147 rfl ?_
                            refine g_icmp_gt C (pc := 148) (tgt := 162) dX3_findDead_148 (by decide) (fun c_148 => ?_) (fun c_148 => ?_)
                            · skip
                              have c_148 : ((q) : Int32) < ((S3.2.1 55) e) := c_148
                              refine g_iinc C (pc := 162) (v := (nI e) + (-1)) (L' := [some (.ref 20), some (.int w), some (.int q), some (.int (nI i)), some (.int r), some (.int ((nI e) + (-1)))]) dX3_findDead_162 rfl rfl (by decide) rfl rfl ?_
                              refine g_goto C (pc := 165) (tgt := 93) dX3_findDead_165 (by decide) ?_
                              refine G.mask [true, true, true, true, true, true] rfl ?_
                              exact ih93 e ((nI e) + (-1)) S3 (by omega) (by rw [← hA]; first | exact fiU_n he (fun z => z.1 c_105) (by rw [hA]; exact hx) | exact fiU_n he (fun z => c_116 z.2.1) (by rw [hA]; exact hx) | exact fiU_n he (fun z => z.2.2.1 c_126) (by rw [hA]; exact hx) | exact fiU_n he (fun z => z.2.2.2.1 c_137) (by rw [hA]; exact hx) | exact fiU_n he (fun z => z.2.2.2.2 c_148) (by rw [hA]; exact hx) | exact fiU_y he c_105 c_116 c_126 c_137 c_148 e_x_159) ((Int32.sub_eq_add_neg _ _).symm) (by first | exact hS3 | (show sI S3 61 x_159 = sI _ 61 x_159; rw [hS3]; exact sI_ow _ _ _ _)) (by omega)
                            · skip
                              have c_148 : ¬ ((q) : Int32) < ((S3.2.1 55) e) := c_148
                              refine g_aload_n C (pc := 151) dX3_findDead_151 rfl rfl ?_
                              refine g_aload_n C (pc := 152) dX3_findDead_152 rfl rfl ?_
                              refine m_geta C 43 55 (pc := 153) dX3_findDead_153 (by decide) (fun _ => rfl) q1236 rfl ?_
                              refine g_iload C (pc := 156) dX3_findDead_156 rfl ?_
                              refine m_iald C (pc := 158) (v := (S3.2.1 55) e) dX3_findDead_158 (by decide) rfl (vp_in_nI (by omega) (by decide)) (gix (S3.2.1 55) (by omega)) ?_
                              refine G.topi (fun x_159 e_x_159 => ?_)
                              have e_x_159 : x_159 = (S3.2.1 55) e := e_x_159
                              refine m_puti C 61 (pc := 159) dX3_findDead_159 rfl q1254 rfl rfl rfl ?_
                              refine g_iinc C (pc := 162) (v := (nI e) + (-1)) (L' := [some (.ref 20), some (.int w), some (.int q), some (.int (nI i)), some (.int r), some (.int ((nI e) + (-1)))]) dX3_findDead_162 rfl rfl (by decide) rfl rfl ?_
                              refine g_goto C (pc := 165) (tgt := 93) dX3_findDead_165 (by decide) ?_
                              refine G.mask [true, true, true, true, true, true] rfl ?_
                              exact ih93 e ((nI e) + (-1)) (sI S3 61 x_159) (by omega) (by rw [← hA]; first | exact fiU_n he (fun z => z.1 c_105) (by rw [hA]; exact hx) | exact fiU_n he (fun z => c_116 z.2.1) (by rw [hA]; exact hx) | exact fiU_n he (fun z => z.2.2.1 c_126) (by rw [hA]; exact hx) | exact fiU_n he (fun z => z.2.2.2.1 c_137) (by rw [hA]; exact hx) | exact fiU_n he (fun z => z.2.2.2.2 c_148) (by rw [hA]; exact hx) | exact fiU_y he c_105 c_116 c_126 c_137 c_148 e_x_159) ((Int32.sub_eq_add_neg _ _).symm) (by first | exact hS3 | (show sI S3 61 x_159 = sI _ 61 x_159; rw [hS3]; exact sI_ow _ _ _ _)) (by omega)
              refine G.mask [true, true, true, true, true, true] rfl ?_
              exact loop_93 _ (mN S2 51) x_91 (sI (sI S2 58 (nI i)) 61 (-1)) (Nat.le_refl _) (by rw [Nat.sub_self]; rfl) (by rw [e_x_91]) (rfl) (Nat.lt_succ_self _)
            · skip
              have c_35 : j < (mN S2 49) := (nI_ltI (a := j) (b := (mN S2 49)) (by omega) (by omega)).mp c_35
              refine g_aload_n C (pc := 38) dX3_findDead_38 rfl rfl ?_
              refine m_geta C 35 47 (pc := 39) dX3_findDead_39 (by decide) (fun _ => rfl) q1228 rfl ?_
              refine g_iload C (pc := 42) dX3_findDead_42 rfl ?_
              refine m_iald C (pc := 44) (v := (S2.2.1 47) j) dX3_findDead_44 (by decide) rfl (vp_in_nI (by omega) (by decide)) (gix (S2.2.1 47) (by omega)) ?_
              refine g_iload_n C (pc := 45) dX3_findDead_45 rfl ?_
              refine g_icmp_ne C (pc := 46) (tgt := 69) dX3_findDead_46 (by decide) (fun c_46 => ?_) (fun c_46 => ?_)
              · skip
                have c_46 : ¬ (((S2.2.1 47) j) : Int32) = (nI i) := c_46
                refine g_iinc C (pc := 69) (v := nI (j + 1)) (L' := [some (.ref 20), some (.int w), some (.int q), some (.int (nI i)), some (.int r), some (.int (nI (j + 1)))]) dX3_findDead_69 rfl (nI_inc _) (by decide) rfl rfl ?_
                refine g_goto C (pc := 72) (tgt := 29) dX3_findDead_72 (by decide) ?_
                refine G.mask [true, true, true, true, true, true] rfl ?_
                exact ih29 (j + 1) r (by omega) (by first | exact drU_y c_46 c_57 e_x_67 | exact drU_n (fun z => c_46 z.1) hr | exact drU_n (fun z => z.2 c_57) hr) (by omega)
              · skip
                have c_46 : (((S2.2.1 47) j) : Int32) = (nI i) := c_46
                refine g_aload_n C (pc := 49) dX3_findDead_49 rfl rfl ?_
                refine m_geta C 37 49 (pc := 50) dX3_findDead_50 (by decide) (fun _ => rfl) q1230 rfl ?_
                refine g_iload C (pc := 53) dX3_findDead_53 rfl ?_
                refine m_iald C (pc := 55) (v := (S2.2.1 49) j) dX3_findDead_55 (by decide) rfl (vp_in_nI (by omega) (by decide)) (gix (S2.2.1 49) (by omega)) ?_
                refine g_iload_n C (pc := 56) dX3_findDead_56 rfl ?_
                refine g_icmp_gt C (pc := 57) (tgt := 69) dX3_findDead_57 (by decide) (fun c_57 => ?_) (fun c_57 => ?_)
                · skip
                  have c_57 : ((q) : Int32) < ((S2.2.1 49) j) := c_57
                  refine g_iinc C (pc := 69) (v := nI (j + 1)) (L' := [some (.ref 20), some (.int w), some (.int q), some (.int (nI i)), some (.int r), some (.int (nI (j + 1)))]) dX3_findDead_69 rfl (nI_inc _) (by decide) rfl rfl ?_
                  refine g_goto C (pc := 72) (tgt := 29) dX3_findDead_72 (by decide) ?_
                  refine G.mask [true, true, true, true, true, true] rfl ?_
                  exact ih29 (j + 1) r (by omega) (by first | exact drU_y c_46 c_57 e_x_67 | exact drU_n (fun z => c_46 z.1) hr | exact drU_n (fun z => z.2 c_57) hr) (by omega)
                · skip
                  have c_57 : ¬ ((q) : Int32) < ((S2.2.1 49) j) := c_57
                  refine g_aload_n C (pc := 60) dX3_findDead_60 rfl rfl ?_
                  refine m_geta C 36 48 (pc := 61) dX3_findDead_61 (by decide) (fun _ => rfl) q1229 rfl ?_
                  refine g_iload C (pc := 64) dX3_findDead_64 rfl ?_
                  refine m_iald C (pc := 66) (v := (S2.2.1 48) j) dX3_findDead_66 (by decide) rfl (vp_in_nI (by omega) (by decide)) (gix (S2.2.1 48) (by omega)) ?_
                  refine G.topi (fun x_67 e_x_67 => ?_)
                  have e_x_67 : x_67 = (S2.2.1 48) j := e_x_67
                  refine g_istore C (pc := 67) (L' := [some (.ref 20), some (.int w), some (.int q), some (.int (nI i)), some (.int x_67), some (.int (nI j))]) dX3_findDead_67 (by decide) rfl rfl ?_
                  refine g_iinc C (pc := 69) (v := nI (j + 1)) (L' := [some (.ref 20), some (.int w), some (.int q), some (.int (nI i)), some (.int x_67), some (.int (nI (j + 1)))]) dX3_findDead_69 rfl (nI_inc _) (by decide) rfl rfl ?_
                  refine g_goto C (pc := 72) (tgt := 29) dX3_findDead_72 (by decide) ?_
                  refine G.mask [true, true, true, true, true, true] rfl ?_
                  exact ih29 (j + 1) x_67 (by omega) (by first | exact drU_y c_46 c_57 e_x_67 | exact drU_n (fun z => c_46 z.1) hr | exact drU_n (fun z => z.2 c_57) hr) (by omega)
        refine G.mask [true, true, true, true, true, true] rfl ?_
        exact loop_29 _ 0 (-1) (Nat.zero_le _) (rfl) (Nat.lt_succ_self _)
  refine G.mask [true, true, true, true, false, false] rfl ?_
  exact loop_17 _ 0 (sI (sI (sI S 62 1) 59 w) 60 q) (Nat.zero_le _) (rfl) (hM.k_fdS w q 0) (Nat.lt_succ_self _)
theorem ds_X3_findDead : yX3_findDead.cls ≠ "java/lang/invoke/MethodHandle" ∧ yX3_findDead.cls ≠ "java/lang/invoke/VarHandle" ∧ (parseMethodDescriptor yX3_findDead.desc).map (fun d => d.parameters.length) = some 2 := by decide +kernel
set_option maxHeartbeats 300000 in
set_option maxRecDepth 100000 in
theorem c_X3_holdsFor (l : Launch) (D : gD) (B : Nat × Nat) (K : KS) (S : MS) (h : gHp) (n : Nat) (t : Int32) (w : Int32) (q : Int32) (hM : MOK S) (ht : isRuled S t) : Con l yX3_holdsFor (ws_ yX3_holdsFor cX3_holdsFor 4 (some .boolean)) ({ frames := 508, cells := 0, slots := 0, locals := 20252 }) D B [.ref 20, .int t, .int w, .int q] (wd K S h) n (gdt (some (.int (b2i (m_holdsFor S t w q).2))) (wd K ((m_holdsFor S t w q).1) h) n) 0 0 := by
  have ht40 := isThing.inr hM ht.1
  refine Con.begin [some (.ref 20), some (.int t), some (.int w), some (.int q)] rfl rfl (Nat.le_of_ble_eq_true rfl) rfl rfl (fun X C R => ?_)
  refine g_aload_n C (pc := 0) dX3_holdsFor_0 rfl rfl ?_
  refine g_iload_n C (pc := 1) dX3_holdsFor_1 rfl ?_
  refine g_iload_n C (pc := 2) dX3_holdsFor_2 rfl ?_
  refine g_callVDv C (pc := 3) [.int w, .int q] [] dX3_holdsFor_3 (c_X3_findDead l D B K S h n w q hM) (lw_V q1732 q1734 qs69 q87 q1735) (wd_20 _ _ _) rfl rfl ds_X3_findDead ⟨rfl, rfl⟩ ⟨Nat.le_of_ble_eq_true rfl, Nat.le_of_ble_eq_true rfl⟩ rfl rfl ⟨Nat.le_of_ble_eq_true rfl, Nat.le_of_ble_eq_true rfl⟩ (Nat.le_of_ble_eq_true rfl) rfl ?_
  refine G.nmS (fun S_3 e_S_3 => ?_)
  refine g_aload_n C (pc := 6) dX3_holdsFor_6 rfl rfl ?_
  refine g_iconst C (pc := 7) (v := 0) dX3_holdsFor_7 (by decide) ?_
  have hA : ∀ A, A ≠ 60 → S_3.2.1 A = S.2.1 A := fun A hA => by rw [e_S_3]; exact fdS_A S w q 12 hA
  have hse : S_3.2.1 51 t.toNatClampNeg = S.2.1 51 t.toNatClampNeg := by rw [hA 51 (by decide)]
  refine m_putz C (pc := 8) dX3_holdsFor_8 q1255 rfl ?_
  refine g_aload_n C (pc := 11) dX3_holdsFor_11 rfl rfl ?_
  refine g_iload_n C (pc := 12) dX3_holdsFor_12 rfl ?_
  refine m_puti C 58 (pc := 13) dX3_holdsFor_13 rfl q1251 rfl rfl rfl ?_
  refine g_aload_n C (pc := 16) dX3_holdsFor_16 rfl rfl ?_
  refine g_aload_n C (pc := 17) dX3_holdsFor_17 rfl rfl ?_
  refine m_geta C 40 52 (pc := 18) dX3_holdsFor_18 (by decide) (fun _ => rfl) q1233 rfl ?_
  refine g_iload_n C (pc := 21) dX3_holdsFor_21 rfl ?_
  refine m_iald C (pc := 22) (v := (S_3.2.1 52) ((t).toNatClampNeg)) dX3_holdsFor_22 (by decide) rfl ht40 rfl ?_
  refine g_iconst C (pc := 23) (v := (-1)) dX3_holdsFor_23 (by decide) ?_
  refine g_icmp_eq C (pc := 24) (tgt := 56) dX3_holdsFor_24 (by decide) (fun c_24 => ?_) (fun c_24 => ?_)
  · skip
    have c_24 : (((S_3.2.1 52) ((t).toNatClampNeg)) : Int32) = -1 := c_24
    refine g_iconst C (pc := 56) (v := (-1)) dX3_holdsFor_56 (by decide) ?_
    refine m_puti C 61 (pc := 57) dX3_holdsFor_57 rfl q1254 rfl rfl rfl ?_
    refine g_aload_n C (pc := 60) dX3_holdsFor_60 rfl rfl ?_
    refine g_aload_n C (pc := 61) dX3_holdsFor_61 rfl rfl ?_
    refine m_geta C 39 51 (pc := 62) dX3_holdsFor_62 (by decide) (fun _ => rfl) q1232 rfl ?_
    refine g_iload_n C (pc := 65) dX3_holdsFor_65 rfl ?_
    have hZ : (sI (sI (sI S_3 62 0) 58 t) 61 (-1)) = hfT S t w q := by unfold hfT; rw [← e_S_3]; first | rw [askT_y hA c_24 c_34 c_44, e_x_57] | rw [askT_n hA (fun z => z.1 c_24)] | rw [askT_n hA (fun z => z.2.1 c_34)] | rw [askT_n hA (fun z => z.2.2 c_44)]
    have hMZ : MOK (sI (sI (sI S_3 62 0) 58 t) 61 (-1)) := by rw [hZ]; exact (((hM.k_fdS w q 12).setI (f := 62) _ rfl).setI (f := 58) _ rfl).setI (f := 61) _ rfl
    refine m_iald C (pc := 66) (v := (S_3.2.1 51) ((t).toNatClampNeg)) dX3_holdsFor_66 (by decide) rfl ht40 rfl ?_
    refine g_callVD C (pc := 67) [.int ((S_3.2.1 51) ((t).toNatClampNeg))] [] dX3_holdsFor_67 (c_X3_holds l D B K (sI (sI (sI S_3 62 0) 58 t) 61 (-1)) h n ((S_3.2.1 51) ((t).toNatClampNeg)) hMZ (by obtain ⟨z, hz, e⟩ := ht.ex hM; exact ⟨z, by rw [hZ, hfT_r]; exact hz, by rw [← e]; exact hse⟩)) (lw_V q1736 q1738 qs70 q87 q1739) (wd_20 _ _ _) rfl rfl ds_X3_holds ⟨rfl, rfl⟩ ⟨Nat.le_of_ble_eq_true rfl, Nat.le_of_ble_eq_true rfl⟩ rfl rfl ⟨Nat.le_of_ble_eq_true rfl, Nat.le_of_ble_eq_true rfl⟩ (Nat.le_of_ble_eq_true rfl) rfl ?_
    refine G.nmS (fun S_67 e_S_67 => ?_)
    exact g_zretD C (b2i_nb _) R dX3_holdsFor_70 (Nat.le_refl _) (Nat.le_refl _) (by unfold m_holdsFor; rw [hZ, hse]) (congrArg (fun z => wd K z h) (by unfold m_holdsFor; rw [e_S_67, hZ, hse])) rfl
  · skip
    have c_24 : ¬ (((S_3.2.1 52) ((t).toNatClampNeg)) : Int32) = -1 := c_24
    refine g_aload_n C (pc := 27) dX3_holdsFor_27 rfl rfl ?_
    refine m_geta C 40 52 (pc := 28) dX3_holdsFor_28 (by decide) (fun _ => rfl) q1233 rfl ?_
    refine g_iload_n C (pc := 31) dX3_holdsFor_31 rfl ?_
    refine m_iald C (pc := 32) (v := (S_3.2.1 52) ((t).toNatClampNeg)) dX3_holdsFor_32 (by decide) rfl ht40 rfl ?_
    refine g_iload_n C (pc := 33) dX3_holdsFor_33 rfl ?_
    refine g_icmp_gt C (pc := 34) (tgt := 56) dX3_holdsFor_34 (by decide) (fun c_34 => ?_) (fun c_34 => ?_)
    · skip
      have c_34 : ((w) : Int32) < ((S_3.2.1 52) ((t).toNatClampNeg)) := c_34
      refine g_iconst C (pc := 56) (v := (-1)) dX3_holdsFor_56 (by decide) ?_
      refine m_puti C 61 (pc := 57) dX3_holdsFor_57 rfl q1254 rfl rfl rfl ?_
      refine g_aload_n C (pc := 60) dX3_holdsFor_60 rfl rfl ?_
      refine g_aload_n C (pc := 61) dX3_holdsFor_61 rfl rfl ?_
      refine m_geta C 39 51 (pc := 62) dX3_holdsFor_62 (by decide) (fun _ => rfl) q1232 rfl ?_
      refine g_iload_n C (pc := 65) dX3_holdsFor_65 rfl ?_
      have hZ : (sI (sI (sI S_3 62 0) 58 t) 61 (-1)) = hfT S t w q := by unfold hfT; rw [← e_S_3]; first | rw [askT_y hA c_24 c_34 c_44, e_x_57] | rw [askT_n hA (fun z => z.1 c_24)] | rw [askT_n hA (fun z => z.2.1 c_34)] | rw [askT_n hA (fun z => z.2.2 c_44)]
      have hMZ : MOK (sI (sI (sI S_3 62 0) 58 t) 61 (-1)) := by rw [hZ]; exact (((hM.k_fdS w q 12).setI (f := 62) _ rfl).setI (f := 58) _ rfl).setI (f := 61) _ rfl
      refine m_iald C (pc := 66) (v := (S_3.2.1 51) ((t).toNatClampNeg)) dX3_holdsFor_66 (by decide) rfl ht40 rfl ?_
      refine g_callVD C (pc := 67) [.int ((S_3.2.1 51) ((t).toNatClampNeg))] [] dX3_holdsFor_67 (c_X3_holds l D B K (sI (sI (sI S_3 62 0) 58 t) 61 (-1)) h n ((S_3.2.1 51) ((t).toNatClampNeg)) hMZ (by obtain ⟨z, hz, e⟩ := ht.ex hM; exact ⟨z, by rw [hZ, hfT_r]; exact hz, by rw [← e]; exact hse⟩)) (lw_V q1736 q1738 qs70 q87 q1739) (wd_20 _ _ _) rfl rfl ds_X3_holds ⟨rfl, rfl⟩ ⟨Nat.le_of_ble_eq_true rfl, Nat.le_of_ble_eq_true rfl⟩ rfl rfl ⟨Nat.le_of_ble_eq_true rfl, Nat.le_of_ble_eq_true rfl⟩ (Nat.le_of_ble_eq_true rfl) rfl ?_
      refine G.nmS (fun S_67 e_S_67 => ?_)
      exact g_zretD C (b2i_nb _) R dX3_holdsFor_70 (Nat.le_refl _) (Nat.le_refl _) (by unfold m_holdsFor; rw [hZ, hse]) (congrArg (fun z => wd K z h) (by unfold m_holdsFor; rw [e_S_67, hZ, hse])) rfl
    · skip
      have c_34 : ¬ ((w) : Int32) < ((S_3.2.1 52) ((t).toNatClampNeg)) := c_34
      refine g_aload_n C (pc := 37) dX3_holdsFor_37 rfl rfl ?_
      refine m_geta C 40 52 (pc := 38) dX3_holdsFor_38 (by decide) (fun _ => rfl) q1233 rfl ?_
      refine g_iload_n C (pc := 41) dX3_holdsFor_41 rfl ?_
      refine m_iald C (pc := 42) (v := (S_3.2.1 52) ((t).toNatClampNeg)) dX3_holdsFor_42 (by decide) rfl ht40 rfl ?_
      refine g_iload_n C (pc := 43) dX3_holdsFor_43 rfl ?_
      refine g_icmp_gt C (pc := 44) (tgt := 56) dX3_holdsFor_44 (by decide) (fun c_44 => ?_) (fun c_44 => ?_)
      · skip
        have c_44 : ((q) : Int32) < ((S_3.2.1 52) ((t).toNatClampNeg)) := c_44
        refine g_iconst C (pc := 56) (v := (-1)) dX3_holdsFor_56 (by decide) ?_
        refine m_puti C 61 (pc := 57) dX3_holdsFor_57 rfl q1254 rfl rfl rfl ?_
        refine g_aload_n C (pc := 60) dX3_holdsFor_60 rfl rfl ?_
        refine g_aload_n C (pc := 61) dX3_holdsFor_61 rfl rfl ?_
        refine m_geta C 39 51 (pc := 62) dX3_holdsFor_62 (by decide) (fun _ => rfl) q1232 rfl ?_
        refine g_iload_n C (pc := 65) dX3_holdsFor_65 rfl ?_
        have hZ : (sI (sI (sI S_3 62 0) 58 t) 61 (-1)) = hfT S t w q := by unfold hfT; rw [← e_S_3]; first | rw [askT_y hA c_24 c_34 c_44, e_x_57] | rw [askT_n hA (fun z => z.1 c_24)] | rw [askT_n hA (fun z => z.2.1 c_34)] | rw [askT_n hA (fun z => z.2.2 c_44)]
        have hMZ : MOK (sI (sI (sI S_3 62 0) 58 t) 61 (-1)) := by rw [hZ]; exact (((hM.k_fdS w q 12).setI (f := 62) _ rfl).setI (f := 58) _ rfl).setI (f := 61) _ rfl
        refine m_iald C (pc := 66) (v := (S_3.2.1 51) ((t).toNatClampNeg)) dX3_holdsFor_66 (by decide) rfl ht40 rfl ?_
        refine g_callVD C (pc := 67) [.int ((S_3.2.1 51) ((t).toNatClampNeg))] [] dX3_holdsFor_67 (c_X3_holds l D B K (sI (sI (sI S_3 62 0) 58 t) 61 (-1)) h n ((S_3.2.1 51) ((t).toNatClampNeg)) hMZ (by obtain ⟨z, hz, e⟩ := ht.ex hM; exact ⟨z, by rw [hZ, hfT_r]; exact hz, by rw [← e]; exact hse⟩)) (lw_V q1736 q1738 qs70 q87 q1739) (wd_20 _ _ _) rfl rfl ds_X3_holds ⟨rfl, rfl⟩ ⟨Nat.le_of_ble_eq_true rfl, Nat.le_of_ble_eq_true rfl⟩ rfl rfl ⟨Nat.le_of_ble_eq_true rfl, Nat.le_of_ble_eq_true rfl⟩ (Nat.le_of_ble_eq_true rfl) rfl ?_
        refine G.nmS (fun S_67 e_S_67 => ?_)
        exact g_zretD C (b2i_nb _) R dX3_holdsFor_70 (Nat.le_refl _) (Nat.le_refl _) (by unfold m_holdsFor; rw [hZ, hse]) (congrArg (fun z => wd K z h) (by unfold m_holdsFor; rw [e_S_67, hZ, hse])) rfl
      · skip
        have c_44 : ¬ ((q) : Int32) < ((S_3.2.1 52) ((t).toNatClampNeg)) := c_44
        refine g_aload_n C (pc := 47) dX3_holdsFor_47 rfl rfl ?_
        refine m_geta C 40 52 (pc := 48) dX3_holdsFor_48 (by decide) (fun _ => rfl) q1233 rfl ?_
        refine g_iload_n C (pc := 51) dX3_holdsFor_51 rfl ?_
        refine m_iald C (pc := 52) (v := (S_3.2.1 52) ((t).toNatClampNeg)) dX3_holdsFor_52 (by decide) rfl ht40 rfl ?_
        refine g_goto C (pc := 53) (tgt := 57) dX3_holdsFor_53 (by decide) ?_
        refine G.topi (fun x_57 e_x_57 => ?_)
        have e_x_57 : x_57 = (S_3.2.1 52) ((t).toNatClampNeg) := e_x_57
        refine m_puti C 61 (pc := 57) dX3_holdsFor_57 rfl q1254 rfl rfl rfl ?_
        refine g_aload_n C (pc := 60) dX3_holdsFor_60 rfl rfl ?_
        refine g_aload_n C (pc := 61) dX3_holdsFor_61 rfl rfl ?_
        refine m_geta C 39 51 (pc := 62) dX3_holdsFor_62 (by decide) (fun _ => rfl) q1232 rfl ?_
        refine g_iload_n C (pc := 65) dX3_holdsFor_65 rfl ?_
        have hZ : (sI (sI (sI S_3 62 0) 58 t) 61 x_57) = hfT S t w q := by unfold hfT; rw [← e_S_3]; first | rw [askT_y hA c_24 c_34 c_44, e_x_57] | rw [askT_n hA (fun z => z.1 c_24)] | rw [askT_n hA (fun z => z.2.1 c_34)] | rw [askT_n hA (fun z => z.2.2 c_44)]
        have hMZ : MOK (sI (sI (sI S_3 62 0) 58 t) 61 x_57) := by rw [hZ]; exact (((hM.k_fdS w q 12).setI (f := 62) _ rfl).setI (f := 58) _ rfl).setI (f := 61) _ rfl
        refine m_iald C (pc := 66) (v := (S_3.2.1 51) ((t).toNatClampNeg)) dX3_holdsFor_66 (by decide) rfl ht40 rfl ?_
        refine g_callVD C (pc := 67) [.int ((S_3.2.1 51) ((t).toNatClampNeg))] [] dX3_holdsFor_67 (c_X3_holds l D B K (sI (sI (sI S_3 62 0) 58 t) 61 x_57) h n ((S_3.2.1 51) ((t).toNatClampNeg)) hMZ (by obtain ⟨z, hz, e⟩ := ht.ex hM; exact ⟨z, by rw [hZ, hfT_r]; exact hz, by rw [← e]; exact hse⟩)) (lw_V q1736 q1738 qs70 q87 q1739) (wd_20 _ _ _) rfl rfl ds_X3_holds ⟨rfl, rfl⟩ ⟨Nat.le_of_ble_eq_true rfl, Nat.le_of_ble_eq_true rfl⟩ rfl rfl ⟨Nat.le_of_ble_eq_true rfl, Nat.le_of_ble_eq_true rfl⟩ (Nat.le_of_ble_eq_true rfl) rfl ?_
        refine G.nmS (fun S_67 e_S_67 => ?_)
        exact g_zretD C (b2i_nb _) R dX3_holdsFor_70 (Nat.le_refl _) (Nat.le_refl _) (by unfold m_holdsFor; rw [hZ, hse]) (congrArg (fun z => wd K z h) (by unfold m_holdsFor; rw [e_S_67, hZ, hse])) rfl
theorem ds_X3_holdsFor : yX3_holdsFor.cls ≠ "java/lang/invoke/MethodHandle" ∧ yX3_holdsFor.cls ≠ "java/lang/invoke/VarHandle" ∧ (parseMethodDescriptor yX3_holdsFor.desc).map (fun d => d.parameters.length) = some 3 := by decide +kernel
set_option maxHeartbeats 300000 in
set_option maxRecDepth 100000 in
theorem c_X3_fault (l : Launch) (D : gD) (B : Nat × Nat) (K : KS) (S : MS) (h : gHp) (n : Nat)  (hM : MOK S) : Con l yX3_fault (ws_ yX3_fault cX3_fault 2 (some .int)) ({ frames := 506, cells := 0, slots := 0, locals := 20206 }) D B [.ref 20] (wd K S h) n (gdt (some (.int ((m_fault S).2))) (wd K ((m_fault S).1) h) n) 0 0 := by
  refine Con.begin [some (.ref 20), none] rfl rfl (Nat.le_of_ble_eq_true rfl) rfl rfl (fun X C R => ?_)
  refine g_aload_n C (pc := 0) dX3_fault_0 rfl rfl ?_
  refine g_iconst C (pc := 1) (v := 0) dX3_fault_1 (by decide) ?_
  refine m_puti C 0 (pc := 2) dX3_fault_2 rfl q1193 rfl rfl rfl ?_
  refine g_aload_n C (pc := 5) dX3_fault_5 rfl rfl ?_
  refine g_iconst C (pc := 6) (v := 1) dX3_fault_6 (by decide) ?_
  refine m_putz C (pc := 7) dX3_fault_7 q1255 rfl ?_
  refine g_aload_n C (pc := 10) dX3_fault_10 rfl rfl ?_
  refine g_aload_n C (pc := 11) dX3_fault_11 rfl rfl ?_
  refine m_geta C 15 31 (pc := 12) dX3_fault_12 (by decide) (fun _ => rfl) q1208 rfl ?_
  refine g_iconst C (pc := 15) (v := 0) dX3_fault_15 (by decide) ?_
  refine g_aload_n C (pc := 16) dX3_fault_16 rfl rfl ?_
  refine m_geti C 16 (pc := 17) (v := nI (mN S 16)) dX3_fault_17 rfl q1209 rfl hM.c16.1 ?_
  refine g_callVD C (pc := 20) [.ref 31, .int 0, .int (nI (mN S 16))] [] dX3_fault_20 (c_X3_goThrough l D B K (sI (sI S 0 0) 62 1) h n 31 0 (nI (mN S 16)) ((hM.setI (f := 0) 0 rfl).setI (f := 62) 1 rfl) (TXT.flt hM)) (lw_V q1636 q1638 qs53 q87 q1639) (wd_20 _ _ _) rfl rfl ds_X3_goThrough ⟨rfl, rfl⟩ ⟨Nat.le_of_ble_eq_true rfl, Nat.le_of_ble_eq_true rfl⟩ rfl rfl ⟨Nat.le_of_ble_eq_true rfl, Nat.le_of_ble_eq_true rfl⟩ (Nat.le_of_ble_eq_true rfl) rfl ?_
  refine G.nmS (fun S_20 e_S_20 => ?_)
  refine g_istore_n C (pc := 23) (L' := [some (.ref 20), some (.int (b2i (PT (thrS (sI (sI S 0 0) 62 1) 31 0 (nI (mN S 16)))).2.2.2))]) dX3_fault_23 (by decide) rfl rfl ?_
  refine g_aload_n C (pc := 24) dX3_fault_24 rfl rfl ?_
  refine m_geti C 56 (pc := 25) (v := S_20.1 56) dX3_fault_25 rfl q1249 rfl rfl ?_
  exact g_iretD C R dX3_fault_28 (Nat.le_refl _) (Nat.le_refl _) (by rw [e_S_20]; rfl) (congrArg (fun z => wd K z h) (e_S_20)) rfl
theorem ds_X3_fault : yX3_fault.cls ≠ "java/lang/invoke/MethodHandle" ∧ yX3_fault.cls ≠ "java/lang/invoke/VarHandle" ∧ (parseMethodDescriptor yX3_fault.desc).map (fun d => d.parameters.length) = some 0 := by decide +kernel
theorem flt_I (S : MS) {f : Nat} (hf : f < 52 ∧ f ≠ 0) : (m_fault S).1.1 f = S.1 f := by
  show (gthS (fltS S)).1 f = _
  rw [gthS_I _ (by omega)]
  unfold fltS thrS
  rw [sI_ne _ _ (by omega), sI_ne _ _ (by omega)]
  show (sI (sI S 0 0) 62 1).1 f = _
  rw [sI_ne _ _ (by omega), sI_ne _ _ (by omega)]
set_option maxHeartbeats 300000 in
set_option maxRecDepth 100000 in
theorem c_X3_rule (l : Launch) (D : gD) (B : Nat × Nat) (K : KS) (S : MS) (h : gHp) (n : Nat)  (hM : MOK S) : Con l yX3_rule (ws_ yX3_rule cX3_rule 2 (some .int)) ({ frames := 507, cells := 0, slots := 0, locals := 20227 }) D B [.ref 20] (wd K S h) n (gdt (some (.int ((m_rule S).2))) (wd K ((m_rule S).1) h) n) 0 0 := by
  have b48 := hM.c48.2
  have b16 := hM.c16.2
  refine Con.begin [some (.ref 20), none] rfl rfl (Nat.le_of_ble_eq_true rfl) rfl rfl (fun X C R => ?_)
  refine g_aload_n C (pc := 0) dX3_rule_0 rfl rfl ?_
  refine g_callVD C (pc := 1) [] [] dX3_rule_1 (c_X3_fault l D B K S h n  hM) (lw_V q1688 q1633 q1634 q87 q1635) (wd_20 _ _ _) rfl rfl ds_X3_fault ⟨rfl, rfl⟩ ⟨Nat.le_of_ble_eq_true rfl, Nat.le_of_ble_eq_true rfl⟩ rfl rfl ⟨Nat.le_of_ble_eq_true rfl, Nat.le_of_ble_eq_true rfl⟩ (Nat.le_of_ble_eq_true rfl) rfl ?_
  refine G.nmS (fun S_1 e_S_1 => ?_)
  refine g_iconst C (pc := 4) (v := (-1)) dX3_rule_4 (by decide) ?_
  refine g_icmp_ne C (pc := 5) (tgt := 17) dX3_rule_5 (by decide) (fun c_5 => ?_) (fun c_5 => ?_)
  · skip
    have c_5 : ¬ (((m_fault S).2) : Int32) = -1 := c_5
    refine g_iconst C (pc := 17) (v := (-1)) dX3_rule_17 (by decide) ?_
    exact g_iretD C R dX3_rule_18 (Nat.le_refl _) (Nat.le_refl _) (by unfold m_rule; first | exact (congrArg Prod.snd (if_pos (Or.inl c_5))).symm | exact (congrArg Prod.snd (if_pos (Or.inr c_14))).symm | exact (congrArg Prod.snd (if_neg hng)).symm) (congrArg (fun z => wd K z h) (by unfold m_rule; first | exact e_S_1.trans (congrArg Prod.fst (if_pos (Or.inl c_5))).symm | exact e_S_1.trans (congrArg Prod.fst (if_pos (Or.inr c_14))).symm | (rw [if_neg hng, hS2, hje, e_S_1]))) rfl
  · skip
    have c_5 : (((m_fault S).2) : Int32) = -1 := c_5
    refine g_aload_n C (pc := 8) dX3_rule_8 rfl rfl ?_
    refine m_geti C 48 (pc := 9) (v := nI (mN S 48)) dX3_rule_9 rfl q1241 rfl (by rw [e_S_1, flt_I S (by decide)]; exact hM.c48.1) ?_
    refine g_bipush C (pc := 12) (v := 20) dX3_rule_12 (by decide) ?_
    refine g_icmp_ne C (pc := 14) (tgt := 19) dX3_rule_14 (by decide) (fun c_14 => ?_) (fun c_14 => ?_)
    · skip
      have c_14 : ¬ (mN S 48) = 20 := fun q => c_14 ((nI_eq (a := (mN S 48)) (b := 20) (by omega) (by omega)).mpr q)
      refine g_iconst C (pc := 19) (v := 0) dX3_rule_19 (by decide) ?_
      refine g_istore_n C (pc := 20) (L' := [some (.ref 20), some (.int 0)]) dX3_rule_20 (by decide) rfl rfl ?_
      have hng : ¬ (¬ (m_fault S).2 = -1 ∨ (mN S 48) = 20) := fun z => z.elim (fun q => q c_5) c_14
      have loop_21 : ∀ (d21 : Nat) (j : Nat) (S2 : MS), (j ≤ (mN S 16)) → (S2 = cpyR S_1 (mN S 48) j) → (mN S 16) - j < d21 → G X D B (wd K S2 h) n 0 0 [some (.ref 20), some (.int (nI j))] 21 [] := by
        intro d21
        induction d21 with
        | zero =>
          intro j S2 hj hS2 hm21
          exact absurd hm21 (Nat.not_lt_zero _)
        | succ d21 ih21 =>
          intro j S2 hj hS2 hm21
          refine g_iload_n C (pc := 21) dX3_rule_21 rfl ?_
          refine g_aload_n C (pc := 22) dX3_rule_22 rfl rfl ?_
          refine m_geti C 16 (pc := 23) (v := nI (mN S 16)) dX3_rule_23 rfl q1209 rfl (by rw [hS2, cpyR_1, e_S_1, flt_I S (by decide)]; exact hM.c16.1) ?_
          refine g_icmp_ge C (pc := 26) (tgt := 56) dX3_rule_26 (by decide) (fun c_26 => ?_) (fun c_26 => ?_)
          · skip
            have c_26 : (mN S 16) ≤ j := Nat.not_lt.mp fun q => c_26 ((nI_ltI (a := j) (b := (mN S 16)) (by omega) (by omega)).mpr q)
            have hje : j = (mN S 16) := by omega
            refine g_aload_n C (pc := 56) dX3_rule_56 rfl rfl ?_
            refine m_geta C 34 46 (pc := 57) dX3_rule_57 (by decide) (fun _ => rfl) q1227 rfl ?_
            refine g_aload_n C (pc := 60) dX3_rule_60 rfl rfl ?_
            refine m_geti C 48 (pc := 61) (v := nI (mN S 48)) dX3_rule_61 rfl q1241 rfl (by rw [hS2, cpyR_1, e_S_1, flt_I S (by decide)]; exact hM.c48.1) ?_
            refine g_aload_n C (pc := 64) dX3_rule_64 rfl rfl ?_
            refine m_geti C 16 (pc := 65) (v := nI (mN S 16)) dX3_rule_65 rfl q1209 rfl (by rw [hS2, cpyR_1, e_S_1, flt_I S (by decide)]; exact hM.c16.1) ?_
            refine m_iast C (pc := 68) (j := (mN S 48)) dX3_rule_68 (by decide) rfl (vp_in_nI (by omega) (by decide)) (nI_clamp (by omega)) ?_
            refine g_aload_n C (pc := 69) dX3_rule_69 rfl rfl ?_
            refine g_dup C (pc := 70) dX3_rule_70 rfl ?_
            refine m_geti C 48 (pc := 71) (v := nI (mN S 48)) dX3_rule_71 rfl q1241 rfl (by rw [hS2, cpyR_1, e_S_1, flt_I S (by decide)]; exact hM.c48.1) ?_
            refine g_iconst C (pc := 74) (v := 1) dX3_rule_74 (by decide) ?_
            refine g_iadd C (pc := 75) dX3_rule_75 ?_
            refine G.topc (nI_1 _) ?_
            refine m_puti C 48 (pc := 76) dX3_rule_76 rfl q1241 rfl rfl rfl ?_
            refine g_aload_n C (pc := 79) dX3_rule_79 rfl rfl ?_
            refine g_iconst C (pc := 80) (v := 0) dX3_rule_80 (by decide) ?_
            refine m_puti C 16 (pc := 81) dX3_rule_81 rfl q1209 rfl rfl rfl ?_
            refine g_aload_n C (pc := 84) dX3_rule_84 rfl rfl ?_
            refine m_geti C 48 (pc := 85) (v := nI ((mN S 48) + 1)) dX3_rule_85 rfl q1241 rfl rfl ?_
            refine g_iconst C (pc := 88) (v := 1) dX3_rule_88 (by decide) ?_
            refine g_isub C (pc := 89) dX3_rule_89 ?_
            refine G.topc (nI_pred _) ?_
            exact g_iretD C R dX3_rule_90 (Nat.le_refl _) (Nat.le_refl _) (by unfold m_rule; first | exact (congrArg Prod.snd (if_pos (Or.inl c_5))).symm | exact (congrArg Prod.snd (if_pos (Or.inr c_14))).symm | exact (congrArg Prod.snd (if_neg hng)).symm) (congrArg (fun z => wd K z h) (by unfold m_rule; first | exact e_S_1.trans (congrArg Prod.fst (if_pos (Or.inl c_5))).symm | exact e_S_1.trans (congrArg Prod.fst (if_pos (Or.inr c_14))).symm | (rw [if_neg hng, hS2, hje, e_S_1]))) rfl
          · skip
            have c_26 : j < (mN S 16) := (nI_ltI (a := j) (b := (mN S 16)) (by omega) (by omega)).mp c_26
            refine g_aload_n C (pc := 29) dX3_rule_29 rfl rfl ?_
            refine m_geta C 33 45 (pc := 30) dX3_rule_30 (by decide) (fun _ => rfl) q1226 rfl ?_
            refine g_sipush C (pc := 33) (v := 160) dX3_rule_33 (by decide) ?_
            refine g_aload_n C (pc := 36) dX3_rule_36 rfl rfl ?_
            refine m_geti C 48 (pc := 37) (v := nI (mN S 48)) dX3_rule_37 rfl q1241 rfl (by rw [hS2, cpyR_1, e_S_1, flt_I S (by decide)]; exact hM.c48.1) ?_
            refine g_imul C (pc := 40) dX3_rule_40 ?_
            refine G.topc (x2 := nI (160 * (mN S 48))) (nI_mul 160 _) ?_
            refine g_iload_n C (pc := 41) dX3_rule_41 rfl ?_
            refine g_iadd C (pc := 42) dX3_rule_42 ?_
            refine G.topc (nI_add _ _) ?_
            refine g_aload_n C (pc := 43) dX3_rule_43 rfl rfl ?_
            refine m_geta C 15 31 (pc := 44) dX3_rule_44 (by decide) (fun _ => rfl) q1208 rfl ?_
            refine g_iload_n C (pc := 47) dX3_rule_47 rfl ?_
            refine m_bald C (pc := 48) (v := n8 ((S2.2.1 31) j)) dX3_rule_48 (by decide) rfl (vp_in_nI (by omega) (by decide)) (congrArg n8 (gix (S2.2.1 31) (by omega))) ?_
            refine m_bast C (pc := 49) (j := ((160 * (mN S 48)) + j)) dX3_rule_49 (by decide) rfl (vp_in_nI (by omega) (by decide)) (nI_clamp (by omega)) ?_
            refine g_iinc C (pc := 50) (v := nI (j + 1)) (L' := [some (.ref 20), some (.int (nI (j + 1)))]) dX3_rule_50 rfl (nI_inc _) (by decide) rfl rfl ?_
            refine g_goto C (pc := 53) (tgt := 21) dX3_rule_53 (by decide) ?_
            refine G.mask [true, true] rfl ?_
            exact ih21 (j + 1) (sE S2 45 ((160 * (mN S 48)) + j) (n8 (n8 ((S2.2.1 31) j)))) (by omega) (by simp only [cpyR]; rw [← hS2, show S2.2.1 31 = S_1.2.1 31 from by rw [hS2]; exact cpyR_A _ _ _ (by decide)]) (by omega)
      refine G.mask [true, true] rfl ?_
      exact loop_21 _ 0 S_1 (Nat.zero_le _) (rfl) (Nat.lt_succ_self _)
    · skip
      have c_14 : (mN S 48) = 20 := (nI_eq (a := (mN S 48)) (b := 20) (by omega) (by omega)).mp c_14
      refine g_iconst C (pc := 17) (v := (-1)) dX3_rule_17 (by decide) ?_
      exact g_iretD C R dX3_rule_18 (Nat.le_refl _) (Nat.le_refl _) (by unfold m_rule; first | exact (congrArg Prod.snd (if_pos (Or.inl c_5))).symm | exact (congrArg Prod.snd (if_pos (Or.inr c_14))).symm | exact (congrArg Prod.snd (if_neg hng)).symm) (congrArg (fun z => wd K z h) (by unfold m_rule; first | exact e_S_1.trans (congrArg Prod.fst (if_pos (Or.inl c_5))).symm | exact e_S_1.trans (congrArg Prod.fst (if_pos (Or.inr c_14))).symm | (rw [if_neg hng, hS2, hje, e_S_1]))) rfl
theorem ds_X3_rule : yX3_rule.cls ≠ "java/lang/invoke/MethodHandle" ∧ yX3_rule.cls ≠ "java/lang/invoke/VarHandle" ∧ (parseMethodDescriptor yX3_rule.desc).map (fun d => d.parameters.length) = some 0 := by decide +kernel
set_option maxHeartbeats 300000 in
set_option maxRecDepth 100000 in
theorem c_X3_may (l : Launch) (D : gD) (B : Nat × Nat) (K : KS) (S : MS) (h : gHp) (n : Nat) (t : Int32) (w : Int32) (q : Int32) (hM : MOK S) : Con l yX3_may (ws_ yX3_may cX3_may 4 (some .int)) ({ frames := 509, cells := 0, slots := 0, locals := 20275 }) D B [.ref 20, .int t, .int w, .int q] (wd K S h) n (gdt (some (.int ((m_may S t w q).2))) (wd K ((m_may S t w q).1) h) n) 0 0 := by
  refine Con.begin [some (.ref 20), some (.int t), some (.int w), some (.int q)] rfl rfl (Nat.le_of_ble_eq_true rfl) rfl rfl (fun X C R => ?_)
  refine g_aload_n C (pc := 0) dX3_may_0 rfl rfl ?_
  refine g_iconst C (pc := 1) (v := 0) dX3_may_1 (by decide) ?_
  refine m_puti C 0 (pc := 2) dX3_may_2 rfl q1193 rfl rfl rfl ?_
  refine g_aload_n C (pc := 5) dX3_may_5 rfl rfl ?_
  refine g_iload_n C (pc := 6) dX3_may_6 rfl ?_
  refine g_callVD C (pc := 7) [.int t] [] dX3_may_7 (c_X3_isThing l D B K (sI S 0 0) h n t ) (lw_V q1705 q1707 qs66 q87 q1708) (wd_20 _ _ _) rfl rfl ds_X3_isThing ⟨rfl, rfl⟩ ⟨Nat.le_of_ble_eq_true rfl, Nat.le_of_ble_eq_true rfl⟩ rfl rfl ⟨Nat.le_of_ble_eq_true rfl, Nat.le_of_ble_eq_true rfl⟩ (Nat.le_of_ble_eq_true rfl) rfl ?_
  refine g_if_eq C (pc := 10) (tgt := 37) dX3_may_10 (by decide) (fun c_10 => ?_) (fun c_10 => ?_)
  · skip
    have c_10 : ¬ (isThing S t) := p2i_0.mp c_10
    refine g_iconst C (pc := 37) (v := (-1)) dX3_may_37 (by decide) ?_
    refine g_goto C (pc := 38) (tgt := 56) dX3_may_38 (by decide) ?_
    exact g_iretD C R dX3_may_56 (Nat.le_refl _) (Nat.le_refl _) (by unfold m_may; first | (rw [if_pos (by  grind)] <;> first | rfl | (simp [mN_sI_ne, sI_2, p2i, b2i, *]; done) | grind) | (rw [if_neg (by  grind)] <;> first | rfl | (simp [mN_sI_ne, sI_2, p2i, b2i, *]; done) | grind)) (congrArg (fun z => wd K z h) (by unfold m_may; first | (rw [if_pos (by  grind)] <;> first | rfl | (simp [mN_sI_ne, sI_2, p2i, b2i, *]; done) | grind) | (rw [if_neg (by  grind)] <;> first | rfl | (simp [mN_sI_ne, sI_2, p2i, b2i, *]; done) | grind))) rfl
  · skip
    have c_10 : (isThing S t) := p2i_n0.mp c_10
    refine g_aload_n C (pc := 13) dX3_may_13 rfl rfl ?_
    refine m_geta C 44 56 (pc := 14) dX3_may_14 (by decide) (fun _ => rfl) q1237 rfl ?_
    refine g_iload_n C (pc := 17) dX3_may_17 rfl ?_
    refine m_zald C (pc := 18) (v := nb ((S.2.1 56) ((t).toNatClampNeg))) dX3_may_18 (by decide) rfl (by assumption) rfl ?_
    refine g_if_eq C (pc := 19) (tgt := 37) dX3_may_19 (by decide) (fun c_19 => ?_) (fun c_19 => ?_)
    · skip
      have c_19 := nb_0.mp c_19
      refine g_iconst C (pc := 37) (v := (-1)) dX3_may_37 (by decide) ?_
      refine g_goto C (pc := 38) (tgt := 56) dX3_may_38 (by decide) ?_
      exact g_iretD C R dX3_may_56 (Nat.le_refl _) (Nat.le_refl _) (by unfold m_may; first | (rw [if_pos (by  grind)] <;> first | rfl | (simp [mN_sI_ne, sI_2, p2i, b2i, *]; done) | grind) | (rw [if_neg (by  grind)] <;> first | rfl | (simp [mN_sI_ne, sI_2, p2i, b2i, *]; done) | grind)) (congrArg (fun z => wd K z h) (by unfold m_may; first | (rw [if_pos (by  grind)] <;> first | rfl | (simp [mN_sI_ne, sI_2, p2i, b2i, *]; done) | grind) | (rw [if_neg (by  grind)] <;> first | rfl | (simp [mN_sI_ne, sI_2, p2i, b2i, *]; done) | grind))) rfl
    · skip
      have c_19 := nb_n0.mp c_19
      refine g_iload_n C (pc := 22) dX3_may_22 rfl ?_
      refine g_callSD C (pc := 23) [.int w] [] dX3_may_23 (c_X3_isDay l D B (wd K (sI S 0 0) h) n w ) (lw_S q1725 q1726 q87 q1727) ds_X3_isDay ⟨rfl, rfl⟩ ⟨Nat.le_of_ble_eq_true rfl, Nat.le_of_ble_eq_true rfl⟩ rfl rfl ⟨Nat.le_of_ble_eq_true rfl, Nat.le_of_ble_eq_true rfl⟩ (Nat.le_of_ble_eq_true rfl) rfl ?_
      refine g_if_eq C (pc := 26) (tgt := 37) dX3_may_26 (by decide) (fun c_26 => ?_) (fun c_26 => ?_)
      · skip
        have c_26 : ¬ (isIn w 0 2000) := p2i_0.mp c_26
        refine g_iconst C (pc := 37) (v := (-1)) dX3_may_37 (by decide) ?_
        refine g_goto C (pc := 38) (tgt := 56) dX3_may_38 (by decide) ?_
        exact g_iretD C R dX3_may_56 (Nat.le_refl _) (Nat.le_refl _) (by unfold m_may; first | (rw [if_pos (by  grind)] <;> first | rfl | (simp [mN_sI_ne, sI_2, p2i, b2i, *]; done) | grind) | (rw [if_neg (by  grind)] <;> first | rfl | (simp [mN_sI_ne, sI_2, p2i, b2i, *]; done) | grind)) (congrArg (fun z => wd K z h) (by unfold m_may; first | (rw [if_pos (by  grind)] <;> first | rfl | (simp [mN_sI_ne, sI_2, p2i, b2i, *]; done) | grind) | (rw [if_neg (by  grind)] <;> first | rfl | (simp [mN_sI_ne, sI_2, p2i, b2i, *]; done) | grind))) rfl
      · skip
        have c_26 : (isIn w 0 2000) := p2i_n0.mp c_26
        refine g_aload_n C (pc := 29) dX3_may_29 rfl rfl ?_
        refine g_iload_n C (pc := 30) dX3_may_30 rfl ?_
        refine g_callVD C (pc := 31) [.int q] [] dX3_may_31 (c_X3_isKnown l D B K (sI S 0 0) h n q ) (lw_V q1607 q1609 qs47 q87 q1610) (wd_20 _ _ _) rfl rfl ds_X3_isKnown ⟨rfl, rfl⟩ ⟨Nat.le_of_ble_eq_true rfl, Nat.le_of_ble_eq_true rfl⟩ rfl rfl ⟨Nat.le_of_ble_eq_true rfl, Nat.le_of_ble_eq_true rfl⟩ (Nat.le_of_ble_eq_true rfl) rfl ?_
        refine g_if_ne C (pc := 34) (tgt := 41) dX3_may_34 (by decide) (fun c_34 => ?_) (fun c_34 => ?_)
        · skip
          have c_34 : (isIn q 0 (S.1 1)) := p2i_n0.mp c_34
          refine g_aload_n C (pc := 41) dX3_may_41 rfl rfl ?_
          refine g_iload_n C (pc := 42) dX3_may_42 rfl ?_
          refine g_iload_n C (pc := 43) dX3_may_43 rfl ?_
          refine g_iload_n C (pc := 44) dX3_may_44 rfl ?_
          refine g_callVD C (pc := 45) [.int t, .int w, .int q] [] dX3_may_45 (c_X3_holdsFor l D B K (sI S 0 0) h n t w q hM (by assumption)) (lw_V q1728 q1730 qs68 q87 q1731) (wd_20 _ _ _) rfl rfl ds_X3_holdsFor ⟨rfl, rfl⟩ ⟨Nat.le_of_ble_eq_true rfl, Nat.le_of_ble_eq_true rfl⟩ rfl rfl ⟨Nat.le_of_ble_eq_true rfl, Nat.le_of_ble_eq_true rfl⟩ (Nat.le_of_ble_eq_true rfl) rfl ?_
          refine G.nmS (fun S_45 e_S_45 => ?_)
          refine g_if_eq C (pc := 48) (tgt := 55) dX3_may_48 (by decide) (fun c_48 => ?_) (fun c_48 => ?_)
          · skip
            have c_48 : ¬ ((m_holdsFor (sI S 0 0) t w q).2) = true := b2i_0.mp c_48
            refine g_iconst C (pc := 55) (v := 0) dX3_may_55 (by decide) ?_
            exact g_iretD C R dX3_may_56 (Nat.le_refl _) (Nat.le_refl _) (by unfold m_may; first | (rw [if_pos (by  grind)] <;> first | rfl | (simp [mN_sI_ne, sI_2, p2i, b2i, *]; done) | grind) | (rw [if_neg (by  grind)] <;> first | rfl | (simp [mN_sI_ne, sI_2, p2i, b2i, *]; done) | grind)) (congrArg (fun z => wd K z h) (by unfold m_may; first | (rw [if_pos (by  grind)] <;> first | rfl | (simp [mN_sI_ne, sI_2, p2i, b2i, *]; done) | grind) | (rw [if_neg (by  grind)] <;> first | rfl | (simp [mN_sI_ne, sI_2, p2i, b2i, *]; done) | grind))) rfl
          · skip
            have c_48 : ((m_holdsFor (sI S 0 0) t w q).2) = true := b2i_n0.mp c_48
            refine g_iconst C (pc := 51) (v := 1) dX3_may_51 (by decide) ?_
            refine g_goto C (pc := 52) (tgt := 56) dX3_may_52 (by decide) ?_
            exact g_iretD C R dX3_may_56 (Nat.le_refl _) (Nat.le_refl _) (by unfold m_may; first | (rw [if_pos (by  grind)] <;> first | rfl | (simp [mN_sI_ne, sI_2, p2i, b2i, *]; done) | grind) | (rw [if_neg (by  grind)] <;> first | rfl | (simp [mN_sI_ne, sI_2, p2i, b2i, *]; done) | grind)) (congrArg (fun z => wd K z h) (by unfold m_may; first | (rw [if_pos (by  grind)] <;> first | rfl | (simp [mN_sI_ne, sI_2, p2i, b2i, *]; done) | grind) | (rw [if_neg (by  grind)] <;> first | rfl | (simp [mN_sI_ne, sI_2, p2i, b2i, *]; done) | grind))) rfl
        · skip
          have c_34 : ¬ (isIn q 0 (S.1 1)) := p2i_0.mp c_34
          refine g_iconst C (pc := 37) (v := (-1)) dX3_may_37 (by decide) ?_
          refine g_goto C (pc := 38) (tgt := 56) dX3_may_38 (by decide) ?_
          exact g_iretD C R dX3_may_56 (Nat.le_refl _) (Nat.le_refl _) (by unfold m_may; first | (rw [if_pos (by  grind)] <;> first | rfl | (simp [mN_sI_ne, sI_2, p2i, b2i, *]; done) | grind) | (rw [if_neg (by  grind)] <;> first | rfl | (simp [mN_sI_ne, sI_2, p2i, b2i, *]; done) | grind)) (congrArg (fun z => wd K z h) (by unfold m_may; first | (rw [if_pos (by  grind)] <;> first | rfl | (simp [mN_sI_ne, sI_2, p2i, b2i, *]; done) | grind) | (rw [if_neg (by  grind)] <;> first | rfl | (simp [mN_sI_ne, sI_2, p2i, b2i, *]; done) | grind))) rfl
theorem ds_X3_may : yX3_may.cls ≠ "java/lang/invoke/MethodHandle" ∧ yX3_may.cls ≠ "java/lang/invoke/VarHandle" ∧ (parseMethodDescriptor yX3_may.desc).map (fun d => d.parameters.length) = some 3 := by decide +kernel
set_option maxHeartbeats 300000 in
set_option maxRecDepth 100000 in
theorem c_X3_dead (l : Launch) (D : gD) (B : Nat × Nat) (K : KS) (S : MS) (h : gHp) (n : Nat) (h0 : Int32) (w : Int32) (q : Int32) (hM : MOK S) : Con l yX3_dead (ws_ yX3_dead cX3_dead 4 (some .int)) ({ frames := 508, cells := 0, slots := 0, locals := 20252 }) D B [.ref 20, .int h0, .int w, .int q] (wd K S h) n (gdt (some (.int ((m_dead S h0 w q).2))) (wd K ((m_dead S h0 w q).1) h) n) 0 0 := by
  refine Con.begin [some (.ref 20), some (.int h0), some (.int w), some (.int q)] rfl rfl (Nat.le_of_ble_eq_true rfl) rfl rfl (fun X C R => ?_)
  refine g_aload_n C (pc := 0) dX3_dead_0 rfl rfl ?_
  refine g_iconst C (pc := 1) (v := 0) dX3_dead_1 (by decide) ?_
  refine m_puti C 0 (pc := 2) dX3_dead_2 rfl q1193 rfl rfl rfl ?_
  refine g_aload_n C (pc := 5) dX3_dead_5 rfl rfl ?_
  refine g_iload_n C (pc := 6) dX3_dead_6 rfl ?_
  refine g_callVD C (pc := 7) [.int h0] [] dX3_dead_7 (c_X3_isHolder l D B K (sI S 0 0) h n h0 ) (lw_V q1514 q1516 qs40 q87 q1517) (wd_20 _ _ _) rfl rfl ds_X3_isHolder ⟨rfl, rfl⟩ ⟨Nat.le_of_ble_eq_true rfl, Nat.le_of_ble_eq_true rfl⟩ rfl rfl ⟨Nat.le_of_ble_eq_true rfl, Nat.le_of_ble_eq_true rfl⟩ (Nat.le_of_ble_eq_true rfl) rfl ?_
  refine g_if_eq C (pc := 10) (tgt := 28) dX3_dead_10 (by decide) (fun c_10 => ?_) (fun c_10 => ?_)
  · skip
    have c_10 : ¬ (isHolder S h0) := p2i_0.mp c_10
    refine g_iconst C (pc := 28) (v := (-1)) dX3_dead_28 (by decide) ?_
    exact g_iretD C R dX3_dead_29 (Nat.le_refl _) (Nat.le_refl _) (by unfold m_dead; first | (rw [if_pos (by  grind)] <;> first | rfl | (simp [mN_sI_ne, sI_2, p2i, b2i, *]; done) | grind) | (rw [if_neg (by  grind)] <;> first | rfl | (simp [mN_sI_ne, sI_2, p2i, b2i, *]; done) | grind)) (congrArg (fun z => wd K z h) (by unfold m_dead; first | (rw [if_pos (by  grind)] <;> first | rfl | (simp [mN_sI_ne, sI_2, p2i, b2i, *]; done) | grind) | (rw [if_neg (by  grind)] <;> first | rfl | (simp [mN_sI_ne, sI_2, p2i, b2i, *]; done) | grind))) rfl
  · skip
    have c_10 : (isHolder S h0) := p2i_n0.mp c_10
    refine g_iload_n C (pc := 13) dX3_dead_13 rfl ?_
    refine g_callSD C (pc := 14) [.int w] [] dX3_dead_14 (c_X3_isDay l D B (wd K (sI S 0 0) h) n w ) (lw_S q1725 q1726 q87 q1727) ds_X3_isDay ⟨rfl, rfl⟩ ⟨Nat.le_of_ble_eq_true rfl, Nat.le_of_ble_eq_true rfl⟩ rfl rfl ⟨Nat.le_of_ble_eq_true rfl, Nat.le_of_ble_eq_true rfl⟩ (Nat.le_of_ble_eq_true rfl) rfl ?_
    refine g_if_eq C (pc := 17) (tgt := 28) dX3_dead_17 (by decide) (fun c_17 => ?_) (fun c_17 => ?_)
    · skip
      have c_17 : ¬ (isIn w 0 2000) := p2i_0.mp c_17
      refine g_iconst C (pc := 28) (v := (-1)) dX3_dead_28 (by decide) ?_
      exact g_iretD C R dX3_dead_29 (Nat.le_refl _) (Nat.le_refl _) (by unfold m_dead; first | (rw [if_pos (by  grind)] <;> first | rfl | (simp [mN_sI_ne, sI_2, p2i, b2i, *]; done) | grind) | (rw [if_neg (by  grind)] <;> first | rfl | (simp [mN_sI_ne, sI_2, p2i, b2i, *]; done) | grind)) (congrArg (fun z => wd K z h) (by unfold m_dead; first | (rw [if_pos (by  grind)] <;> first | rfl | (simp [mN_sI_ne, sI_2, p2i, b2i, *]; done) | grind) | (rw [if_neg (by  grind)] <;> first | rfl | (simp [mN_sI_ne, sI_2, p2i, b2i, *]; done) | grind))) rfl
    · skip
      have c_17 : (isIn w 0 2000) := p2i_n0.mp c_17
      refine g_aload_n C (pc := 20) dX3_dead_20 rfl rfl ?_
      refine g_iload_n C (pc := 21) dX3_dead_21 rfl ?_
      refine g_callVD C (pc := 22) [.int q] [] dX3_dead_22 (c_X3_isKnown l D B K (sI S 0 0) h n q ) (lw_V q1607 q1609 qs47 q87 q1610) (wd_20 _ _ _) rfl rfl ds_X3_isKnown ⟨rfl, rfl⟩ ⟨Nat.le_of_ble_eq_true rfl, Nat.le_of_ble_eq_true rfl⟩ rfl rfl ⟨Nat.le_of_ble_eq_true rfl, Nat.le_of_ble_eq_true rfl⟩ (Nat.le_of_ble_eq_true rfl) rfl ?_
      refine g_if_ne C (pc := 25) (tgt := 30) dX3_dead_25 (by decide) (fun c_25 => ?_) (fun c_25 => ?_)
      · skip
        have c_25 : (isIn q 0 (S.1 1)) := p2i_n0.mp c_25
        refine g_aload_n C (pc := 30) dX3_dead_30 rfl rfl ?_
        refine g_iload_n C (pc := 31) dX3_dead_31 rfl ?_
        refine g_iload_n C (pc := 32) dX3_dead_32 rfl ?_
        refine g_callVDv C (pc := 33) [.int w, .int q] [] dX3_dead_33 (c_X3_findDead l D B K (sI S 0 0) h n w q hM) (lw_V q1732 q1734 qs69 q87 q1735) (wd_20 _ _ _) rfl rfl ds_X3_findDead ⟨rfl, rfl⟩ ⟨Nat.le_of_ble_eq_true rfl, Nat.le_of_ble_eq_true rfl⟩ rfl rfl ⟨Nat.le_of_ble_eq_true rfl, Nat.le_of_ble_eq_true rfl⟩ (Nat.le_of_ble_eq_true rfl) rfl ?_
        refine G.nmS (fun S_33 e_S_33 => ?_)
        refine g_aload_n C (pc := 36) dX3_dead_36 rfl rfl ?_
        refine m_geta C 63 60 (pc := 37) dX3_dead_37 (by decide) (fun _ => rfl) q1256 rfl ?_
        refine g_iload_n C (pc := 40) dX3_dead_40 rfl ?_
        refine m_zald C (pc := 41) (v := nb ((S_33.2.1 60) ((h0).toNatClampNeg))) dX3_dead_41 (by decide) rfl (by assumption) rfl ?_
        refine g_if_eq C (pc := 42) (tgt := 49) dX3_dead_42 (by decide) (fun c_42 => ?_) (fun c_42 => ?_)
        · skip
          have c_42 := nb_0.mp c_42
          refine g_iconst C (pc := 49) (v := 0) dX3_dead_49 (by decide) ?_
          exact g_iretD C R dX3_dead_50 (Nat.le_refl _) (Nat.le_refl _) (by unfold m_dead; first | (rw [if_pos (by  grind)] <;> first | rfl | (simp [mN_sI_ne, sI_2, p2i, b2i, *]; done) | grind) | (rw [if_neg (by  grind)] <;> first | rfl | (simp [mN_sI_ne, sI_2, p2i, b2i, *]; done) | grind)) (congrArg (fun z => wd K z h) (by unfold m_dead; first | (rw [if_pos (by  grind)] <;> first | rfl | (simp [mN_sI_ne, sI_2, p2i, b2i, *]; done) | grind) | (rw [if_neg (by  grind)] <;> first | rfl | (simp [mN_sI_ne, sI_2, p2i, b2i, *]; done) | grind))) rfl
        · skip
          have c_42 := nb_n0.mp c_42
          refine g_iconst C (pc := 45) (v := 1) dX3_dead_45 (by decide) ?_
          refine g_goto C (pc := 46) (tgt := 50) dX3_dead_46 (by decide) ?_
          exact g_iretD C R dX3_dead_50 (Nat.le_refl _) (Nat.le_refl _) (by unfold m_dead; first | (rw [if_pos (by  grind)] <;> first | rfl | (simp [mN_sI_ne, sI_2, p2i, b2i, *]; done) | grind) | (rw [if_neg (by  grind)] <;> first | rfl | (simp [mN_sI_ne, sI_2, p2i, b2i, *]; done) | grind)) (congrArg (fun z => wd K z h) (by unfold m_dead; first | (rw [if_pos (by  grind)] <;> first | rfl | (simp [mN_sI_ne, sI_2, p2i, b2i, *]; done) | grind) | (rw [if_neg (by  grind)] <;> first | rfl | (simp [mN_sI_ne, sI_2, p2i, b2i, *]; done) | grind))) rfl
      · skip
        have c_25 : ¬ (isIn q 0 (S.1 1)) := p2i_0.mp c_25
        refine g_iconst C (pc := 28) (v := (-1)) dX3_dead_28 (by decide) ?_
        exact g_iretD C R dX3_dead_29 (Nat.le_refl _) (Nat.le_refl _) (by unfold m_dead; first | (rw [if_pos (by  grind)] <;> first | rfl | (simp [mN_sI_ne, sI_2, p2i, b2i, *]; done) | grind) | (rw [if_neg (by  grind)] <;> first | rfl | (simp [mN_sI_ne, sI_2, p2i, b2i, *]; done) | grind)) (congrArg (fun z => wd K z h) (by unfold m_dead; first | (rw [if_pos (by  grind)] <;> first | rfl | (simp [mN_sI_ne, sI_2, p2i, b2i, *]; done) | grind) | (rw [if_neg (by  grind)] <;> first | rfl | (simp [mN_sI_ne, sI_2, p2i, b2i, *]; done) | grind))) rfl
theorem ds_X3_dead : yX3_dead.cls ≠ "java/lang/invoke/MethodHandle" ∧ yX3_dead.cls ≠ "java/lang/invoke/VarHandle" ∧ (parseMethodDescriptor yX3_dead.desc).map (fun d => d.parameters.length) = some 3 := by decide +kernel
set_option maxHeartbeats 300000 in
set_option maxRecDepth 100000 in
theorem c_X3_unseal (l : Launch) (D : gD) (B : Nat × Nat) (K : KS) (S : MS) (h : gHp) (n : Nat) (t : Int32) (hM : MOK S) : Con l yX3_unseal (ws_ yX3_unseal cX3_unseal 2 (some .int)) ({ frames := 509, cells := 0, slots := 0, locals := 20275 }) D B [.ref 20, .int t] (wd K S h) n (gdt (some (.int ((m_unseal S t).2))) (wd K ((m_unseal S t).1) h) n) 0 0 := by
  refine Con.begin [some (.ref 20), some (.int t)] rfl rfl (Nat.le_of_ble_eq_true rfl) rfl rfl (fun X C R => ?_)
  refine g_aload_n C (pc := 0) dX3_unseal_0 rfl rfl ?_
  refine g_iconst C (pc := 1) (v := 0) dX3_unseal_1 (by decide) ?_
  refine m_puti C 0 (pc := 2) dX3_unseal_2 rfl q1193 rfl rfl rfl ?_
  refine g_aload_n C (pc := 5) dX3_unseal_5 rfl rfl ?_
  refine g_iload_n C (pc := 6) dX3_unseal_6 rfl ?_
  refine g_callVD C (pc := 7) [.int t] [] dX3_unseal_7 (c_X3_isThing l D B K (sI S 0 0) h n t ) (lw_V q1705 q1707 qs66 q87 q1708) (wd_20 _ _ _) rfl rfl ds_X3_isThing ⟨rfl, rfl⟩ ⟨Nat.le_of_ble_eq_true rfl, Nat.le_of_ble_eq_true rfl⟩ rfl rfl ⟨Nat.le_of_ble_eq_true rfl, Nat.le_of_ble_eq_true rfl⟩ (Nat.le_of_ble_eq_true rfl) rfl ?_
  refine g_if_eq C (pc := 10) (tgt := 22) dX3_unseal_10 (by decide) (fun c_10 => ?_) (fun c_10 => ?_)
  · skip
    have c_10 : ¬ (isThing S t) := p2i_0.mp c_10
    refine g_iconst C (pc := 22) (v := (-1)) dX3_unseal_22 (by decide) ?_
    exact g_iretD C R dX3_unseal_23 (Nat.le_refl _) (Nat.le_refl _) (by unfold m_unseal; first | (rw [if_pos (by  grind)] <;> first | rfl | (simp [mN_sI_ne, sI_2, p2i, b2i, *]; done) | grind) | (rw [if_neg (by  grind)] <;> first | rfl | (simp [mN_sI_ne, sI_2, p2i, b2i, *]; done) | grind)) (congrArg (fun z => wd K z h) (by unfold m_unseal; first | (rw [if_pos (by  grind)] <;> first | rfl | (simp [mN_sI_ne, sI_2, p2i, b2i, *]; done) | grind) | (rw [if_neg (by  grind)] <;> first | rfl | (simp [mN_sI_ne, sI_2, p2i, b2i, *]; done) | grind))) rfl
  · skip
    have c_10 : (isThing S t) := p2i_n0.mp c_10
    refine g_aload_n C (pc := 13) dX3_unseal_13 rfl rfl ?_
    refine m_geta C 44 56 (pc := 14) dX3_unseal_14 (by decide) (fun _ => rfl) q1237 rfl ?_
    refine g_iload_n C (pc := 17) dX3_unseal_17 rfl ?_
    refine m_zald C (pc := 18) (v := nb ((S.2.1 56) ((t).toNatClampNeg))) dX3_unseal_18 (by decide) rfl (by assumption) rfl ?_
    refine g_if_ne C (pc := 19) (tgt := 24) dX3_unseal_19 (by decide) (fun c_19 => ?_) (fun c_19 => ?_)
    · skip
      have c_19 := nb_n0.mp c_19
      refine g_aload_n C (pc := 24) dX3_unseal_24 rfl rfl ?_
      refine m_geta C 45 57 (pc := 25) dX3_unseal_25 (by decide) (fun _ => rfl) q1238 rfl ?_
      refine g_iload_n C (pc := 28) dX3_unseal_28 rfl ?_
      refine m_zald C (pc := 29) (v := nb ((S.2.1 57) ((t).toNatClampNeg))) dX3_unseal_29 (by decide) rfl (by assumption) rfl ?_
      refine g_if_eq C (pc := 30) (tgt := 35) dX3_unseal_30 (by decide) (fun c_30 => ?_) (fun c_30 => ?_)
      · skip
        have c_30 := nb_0.mp c_30
        refine g_aload_n C (pc := 35) dX3_unseal_35 rfl rfl ?_
        refine m_geta C 45 57 (pc := 36) dX3_unseal_36 (by decide) (fun _ => rfl) q1238 rfl ?_
        refine g_iload_n C (pc := 39) dX3_unseal_39 rfl ?_
        refine g_aload_n C (pc := 40) dX3_unseal_40 rfl rfl ?_
        refine g_iload_n C (pc := 41) dX3_unseal_41 rfl ?_
        refine g_aload_n C (pc := 42) dX3_unseal_42 rfl rfl ?_
        refine m_geti C 1 (pc := 43) (v := S.1 1) dX3_unseal_43 rfl q1194 rfl rfl ?_
        refine g_aload_n C (pc := 46) dX3_unseal_46 rfl rfl ?_
        refine m_geti C 1 (pc := 47) (v := S.1 1) dX3_unseal_47 rfl q1194 rfl rfl ?_
        refine g_callVD C (pc := 50) [.int t, .int (S.1 1), .int (S.1 1)] [.int t, .ref 57] dX3_unseal_50 (c_X3_holdsFor l D B K (sI S 0 0) h n t (S.1 1) (S.1 1) hM (by assumption)) (lw_V q1728 q1730 qs68 q87 q1731) (wd_20 _ _ _) rfl rfl ds_X3_holdsFor ⟨rfl, rfl⟩ ⟨Nat.le_of_ble_eq_true rfl, Nat.le_of_ble_eq_true rfl⟩ rfl rfl ⟨Nat.le_of_ble_eq_true rfl, Nat.le_of_ble_eq_true rfl⟩ (Nat.le_of_ble_eq_true rfl) rfl ?_
        refine G.nmS (fun S_50 e_S_50 => ?_)
        refine m_zast C (pc := 53) (j := (t).toNatClampNeg) dX3_unseal_53 (by decide) rfl (by assumption) rfl (b2i_nb _) ?_
        refine g_aload_n C (pc := 54) dX3_unseal_54 rfl rfl ?_
        refine m_geta C 45 57 (pc := 55) dX3_unseal_55 (by decide) (fun _ => rfl) q1238 rfl ?_
        refine g_iload_n C (pc := 58) dX3_unseal_58 rfl ?_
        refine m_zald C (pc := 59) (v := nb ((upd (S_50.2.1 57) ((t).toNatClampNeg) (b2i (m_holdsFor (sI S 0 0) t (S.1 1) (S.1 1)).2)) ((t).toNatClampNeg))) dX3_unseal_59 (by decide) rfl (by assumption) rfl ?_
        refine g_if_eq C (pc := 60) (tgt := 67) dX3_unseal_60 (by decide) (fun c_60 => ?_) (fun c_60 => ?_)
        · skip
          have c_60 := nb_0.mp c_60
          refine g_iconst C (pc := 67) (v := 0) dX3_unseal_67 (by decide) ?_
          exact g_iretD C R dX3_unseal_68 (Nat.le_refl _) (Nat.le_refl _) (by unfold m_unseal; first | (rw [if_pos (by  grind)] <;> first | rfl | (simp [mN_sI_ne, sI_2, p2i, b2i, *]; done) | grind) | (rw [if_neg (by  grind)] <;> first | rfl | (simp [mN_sI_ne, sI_2, p2i, b2i, *]; done) | grind)) (congrArg (fun z => wd K z h) (by unfold m_unseal; first | (rw [if_pos (by  grind)] <;> first | rfl | (simp [mN_sI_ne, sI_2, p2i, b2i, *]; done) | grind) | (rw [if_neg (by  grind)] <;> first | rfl | (simp [mN_sI_ne, sI_2, p2i, b2i, *]; done) | grind))) rfl
        · skip
          have c_60 := nb_n0.mp c_60
          refine g_iconst C (pc := 63) (v := 1) dX3_unseal_63 (by decide) ?_
          refine g_goto C (pc := 64) (tgt := 68) dX3_unseal_64 (by decide) ?_
          exact g_iretD C R dX3_unseal_68 (Nat.le_refl _) (Nat.le_refl _) (by unfold m_unseal; first | (rw [if_pos (by  grind)] <;> first | rfl | (simp [mN_sI_ne, sI_2, p2i, b2i, *]; done) | grind) | (rw [if_neg (by  grind)] <;> first | rfl | (simp [mN_sI_ne, sI_2, p2i, b2i, *]; done) | grind)) (congrArg (fun z => wd K z h) (by unfold m_unseal; first | (rw [if_pos (by  grind)] <;> first | rfl | (simp [mN_sI_ne, sI_2, p2i, b2i, *]; done) | grind) | (rw [if_neg (by  grind)] <;> first | rfl | (simp [mN_sI_ne, sI_2, p2i, b2i, *]; done) | grind))) rfl
      · skip
        have c_30 := nb_n0.mp c_30
        refine g_iconst C (pc := 33) (v := 2) dX3_unseal_33 (by decide) ?_
        exact g_iretD C R dX3_unseal_34 (Nat.le_refl _) (Nat.le_refl _) (by unfold m_unseal; first | (rw [if_pos (by  grind)] <;> first | rfl | (simp [mN_sI_ne, sI_2, p2i, b2i, *]; done) | grind) | (rw [if_neg (by  grind)] <;> first | rfl | (simp [mN_sI_ne, sI_2, p2i, b2i, *]; done) | grind)) (congrArg (fun z => wd K z h) (by unfold m_unseal; first | (rw [if_pos (by  grind)] <;> first | rfl | (simp [mN_sI_ne, sI_2, p2i, b2i, *]; done) | grind) | (rw [if_neg (by  grind)] <;> first | rfl | (simp [mN_sI_ne, sI_2, p2i, b2i, *]; done) | grind))) rfl
    · skip
      have c_19 := nb_0.mp c_19
      refine g_iconst C (pc := 22) (v := (-1)) dX3_unseal_22 (by decide) ?_
      exact g_iretD C R dX3_unseal_23 (Nat.le_refl _) (Nat.le_refl _) (by unfold m_unseal; first | (rw [if_pos (by  grind)] <;> first | rfl | (simp [mN_sI_ne, sI_2, p2i, b2i, *]; done) | grind) | (rw [if_neg (by  grind)] <;> first | rfl | (simp [mN_sI_ne, sI_2, p2i, b2i, *]; done) | grind)) (congrArg (fun z => wd K z h) (by unfold m_unseal; first | (rw [if_pos (by  grind)] <;> first | rfl | (simp [mN_sI_ne, sI_2, p2i, b2i, *]; done) | grind) | (rw [if_neg (by  grind)] <;> first | rfl | (simp [mN_sI_ne, sI_2, p2i, b2i, *]; done) | grind))) rfl
theorem ds_X3_unseal : yX3_unseal.cls ≠ "java/lang/invoke/MethodHandle" ∧ yX3_unseal.cls ≠ "java/lang/invoke/VarHandle" ∧ (parseMethodDescriptor yX3_unseal.desc).map (fun d => d.parameters.length) = some 1 := by decide +kernel
