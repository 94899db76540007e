/-! MODEL, part 4: signatures, what is said, lent, counted -/
def burnU (A : Nat → Nat → Int32) (k q : Int32) : Nat → Int32
  | 0 => -1
  | i + 1 => if A 66 i = k ∧ ¬ q < A 68 i ∧ (burnU A k q i = -1 ∨ A 67 i < burnU A k q i) then A 67 i else burnU A k q i
abbrev burntS (S : MS) (k q : Int32) : Int32 := burnU S.2.1 k q (mN S 78)
abbrev maySign (S : MS) (k : Int32) : Prop := (burntS S k (S.1 1) = -1 ∨ (S.1 1) < burntS S k (S.1 1)) ∧ (S.2.1 25) k.toNatClampNeg = -1
def chal (r n : Int32) : Int32 := jrem (r + 7 * n) 1019
def keepS (S : MS) (r s k t : Int32) : MS := sI (sE (sE (sE (sE (sE S 61 (mN S 77) r) 62 (mN S 77) s) 63 (mN S 77) k) 64 (mN S 77) t) 65 (mN S 77) (S.1 1)) 77 (nI ((mN S 77) + 1))
def signS (S : MS) (k t x : Int32) : MS := keepS S (four x) (jrem (x + chal (four x) ((S.2.1 50) t.toNatClampNeg) * (S.2.1 22) k.toNatClampNeg) 1019) k t
def m_sign (S : MS) (h k t x : Int32) : MS × Int32 := if (mN S 77) = 80 ∨ ¬ isHolder S h ∨ ¬ isKey S k ∨ ¬ isThing S t ∨ ¬ isIn x 1 1018 ∨ ¬ maySign S k then ((sI S 0 0), -1) else if jlshr (getsS S ((1 : Int32) <<< (h &&& 31)) (S.1 1)) k &&& 1 = 0 then (layS (sI S 0 0) (S.1 1), -1) else (signS (layS (sI S 0 0) (S.1 1)) k t x, nI (mN S 77))
def m_falsely (S : MS) (h b : Int32) : MS × Bool := if ¬ isHolder S h ∨ nb ((S.2.1 30) h.toNatClampNeg) = b then ((sI S 0 0), false) else (sE (sI S 0 0) 30 h.toNatClampNeg b, true)
def sevR (s : Int32) (y : Int64) : Nat → Int64 × Int32
  | 0 => (y, 1)
  | h + 1 => if (s >>> (nI h &&& 31)) &&& 1 = 0 then sevR s y h else (lcg (sevR s y h).1, jrem ((sevR s y h).2 * four (drawn (lcg (sevR s y h).1) 1018 + 1)) 2039)
def firF (A : Nat → Nat → Int32) (s : Int32) : Nat → Option Nat
  | 0 => none
  | h + 1 => match firF A s h with
    | some x => some x
    | none => if (s >>> (nI h &&& 31)) &&& 1 = 1 ∧ ¬ A 30 h = 0 then some h else none
theorem firF_mono {A : Nat → Nat → Int32} {s : Int32} {x i n : Nat} (h : firF A s i = some x) (hi : i ≤ n) : firF A s n = some x := by
  induction n with
  | zero => rw [show i = 0 by omega] at h; exact h
  | succ n ih =>
    rcases Nat.lt_or_ge i (n + 1) with q | q
    · simp only [firF, ih (by omega)]
    · rw [← show i = n + 1 by omega]; exact h
def sevS (pc : Int32 → Int32) (c s : Int32) (y : Int64) : Nat → Int64 × Int32
  | 0 => (y, 0)
  | h + 1 => if (s >>> (nI h &&& 31)) &&& 1 = 0 then sevS pc c s y h else (lcg (sevS pc c s y h).1, jrem ((sevS pc c s y h).2 + drawn (lcg (sevS pc c s y h).1) 1018 + 1 + jrem (c * weight (nI h) s) 1019 * pc (nI h)) 1019)
abbrev sevC (S : MS) (p s t : Int32) : Prop := (mN S 77) = 80 ∨ ¬ isParting S p ∨ ¬ isForce S.2.1 p.toNatClampNeg (S.1 1) ∨ ¬ areHolders S s 1 ∨ ¬ (s &&& ((S.2.1 37) p.toNatClampNeg ^^^ (-1))) = 0 ∨ bitc s < (S.2.1 38) p.toNatClampNeg ∨ ¬ isThing S t ∨ ¬ maySign S ((S.2.1 36) p.toNatClampNeg)
def sevH (S : MS) (s t : Int32) (y : Int64) : Int32 := chal (sevR s y (mN S 12)).2 ((S.2.1 50) t.toNatClampNeg)
def m_several (S : MS) (p s t : Int32) (y : Int64) : MS × Int32 := if sevC S p s t then ((sI S 0 0), -1) else if ¬ sevH S s t y = 0 ∧ ¬ firF S.2.1 s (mN S 12) = none then ((sI S 0 0), -2 - nI ((firF S.2.1 s (mN S 12)).getD 0)) else (keepS (sI S 0 0) (sevR s y (mN S 12)).2 (sevS (pieceM S p) (sevH S s t y) s y (mN S 12)).2 ((S.2.1 36) p.toNatClampNeg) t, nI (mN S 77))
def m_signed (S : MS) (n w : Int32) : Int32 := if isIn n 0 (nI (mN S 77) - 1) then (if w = 0 then (S.2.1 61) n.toNatClampNeg else if w = 1 then (S.2.1 62) n.toNatClampNeg else if w = 2 then (S.2.1 63) n.toNatClampNeg else if w = 3 then (S.2.1 64) n.toNatClampNeg else if w = 4 then (S.2.1 65) n.toNatClampNeg else -1) else -1
def m_taken (S : MS) (t k r s : Int32) : Int32 := if ¬ isThing S t ∨ ¬ isKey S k ∨ ¬ isIn r 1 2038 ∨ ¬ isIn s 0 1018 then -1 else if four s = jrem (r * pwr (four ((S.2.1 22) k.toNatClampNeg)) 2039 (chal r ((S.2.1 50) t.toNatClampNeg)).toNatClampNeg) 2039 then 1 else 0
def m_burn (S : MS) (k q : Int32) : MS × Bool := if (mN S 78) = 60 ∨ ¬ isKey S k ∨ ¬ isIn q 0 2000 then ((sI S 0 0), false) else (sI (sE (sE (sE (sI S 0 0) 66 (mN S 78) k) 67 (mN S 78) q) 68 (mN S 78) (S.1 1)) 78 (nI ((mN S 78) + 1)), true)
def m_old (S : MS) (k : Int32) : MS × Bool := if ¬ isKey S k ∨ ¬ (S.2.1 25) k.toNatClampNeg = -1 then ((sI S 0 0), false) else (sE (sI S 0 0) 25 k.toNatClampNeg (S.1 1), true)
def m_stands (S : MS) (n q : Int32) : Int32 := if ¬ isIn n 0 (nI (mN S 77) - 1) ∨ ¬ isIn q 0 (S.1 1) ∨ q < (S.2.1 65) n.toNatClampNeg then -1 else if burntS S ((S.2.1 63) n.toNatClampNeg) q = -1 ∨ (S.2.1 65) n.toNatClampNeg < burntS S ((S.2.1 63) n.toNatClampNeg) q then 1 else if ¬ burntS S ((S.2.1 63) n.toNatClampNeg) ((S.2.1 65) n.toNatClampNeg) = -1 ∧ ¬ (S.2.1 65) n.toNatClampNeg < burntS S ((S.2.1 63) n.toNatClampNeg) ((S.2.1 65) n.toNatClampNeg) then 3 else 2
def m_lend (S : MS) (k h to u t : Int32) : MS × Int32 := if (mN S 79) = 40 ∨ ¬ isKey S k ∨ ¬ isHolder S h ∨ ¬ isIn to (S.1 1) 2000 ∨ ¬ isIn u 1 100 ∨ (¬ t = -1 ∧ ¬ isThing S t) then ((sI S 0 0), -1) else (sI (sE (sE (sE (sE (sI S 0 0) 69 (mN S 79) k) 70 (mN S 79) to) 71 (mN S 79) u) 72 (mN S 79) t) 79 (nI ((mN S 79) + 1)), nI (mN S 79))
def m_use (S : MS) (n t x : Int32) : MS × Int32 := if (mN S 77) = 80 ∨ ¬ isIn n 0 (nI (mN S 79) - 1) ∨ ¬ isThing S t ∨ ¬ isIn x 1 1018 ∨ ¬ (S.2.1 73) n.toNatClampNeg = 0 ∨ (S.2.1 70) n.toNatClampNeg < (S.1 1) ∨ (S.2.1 71) n.toNatClampNeg = 0 ∨ (¬ (S.2.1 72) n.toNatClampNeg = -1 ∧ ¬ (S.2.1 72) n.toNatClampNeg = t) ∨ ¬ maySign S ((S.2.1 69) n.toNatClampNeg) then ((sI S 0 0), -1) else (signS (sE (sI S 0 0) 71 n.toNatClampNeg ((S.2.1 71) n.toNatClampNeg - 1)) ((S.2.1 69) n.toNatClampNeg) t x, nI (mN S 77))
def m_back (S : MS) (n : Int32) : MS × Bool := if ¬ isIn n 0 (nI (mN S 79) - 1) ∨ ¬ (S.2.1 73) n.toNatClampNeg = 0 then ((sI S 0 0), false) else (sE (sI S 0 0) 73 n.toNatClampNeg 1, true)
def toldP (A : Nat → Nat → Int32) (k q : Int32) : Nat → Int32
  | 0 => -1
  | p + 1 => if A 36 p = k ∧ isForce A p q then nI p else toldP A k q p
def m_told (S : MS) (k w : Int32) : Int32 := if isKey S k then (if w = 0 then (S.2.1 21) k.toNatClampNeg else if w = 1 then (S.2.1 23) k.toNatClampNeg else if w = 2 then burntS S k (S.1 1) else if w = 3 then (S.2.1 25) k.toNatClampNeg else if w = 4 then toldP S.2.1 k (S.1 1) (mN S 30) else -1) else -1
def m_fall (S : MS) (s : Int32) : MS × Int32 := if (mN S 82) = 20 ∨ ¬ areHolders S s 1 then ((sI S 0 0), -1) else (sI (sE (sI S 0 0) 74 (mN S 82) s) 82 (nI ((mN S 82) + 1)), nI (mN S 82))
def cntW (A : Nat → Nat → Int32) : Nat → Nat
  | 0 => 0
  | i + 1 => cntW A i + (if A 35 i = 9999 then 1 else 0)
def cntL (A : Nat → Nat → Int32) : Nat → Nat
  | 0 => 0
  | i + 1 => cntL A i + (if A 73 i = 0 then 1 else 0)
def cntT (A : Nat → Nat → Int32) : Nat → Nat
  | 0 => 0
  | i + 1 => cntT A i + (if A 57 i = 0 then 0 else 1)
def m_count (S : MS) (w : Int32) : Int32 := if w = 0 then (S.1 1) else if w = 1 then nI (mN S 12) else if w = 2 then nI (mN S 13) else if w = 3 then nI (mN S 30) else if w = 4 then nI (cntW S.2.1 (mN S 29)) else if w = 5 then nI (mN S 48) else if w = 6 then nI (mN S 50) else if w = 7 then nI (mN S 51) else if w = 8 then nI (mN S 77) else if w = 9 then nI (cntL S.2.1 (mN S 79)) else if w = 10 then nI (mN S 82) else if w = 11 then nI (mN S 16) else if w = 12 then nI (mN S 31) else if w = 13 then nI (cntT S.2.1 (mN S 50)) else -1
def m_death (S : MS) (h r : Int32) : MS × Bool := if (mN S 49) = 40 ∨ ¬ isHolder S h ∨ ¬ isRule S r then ((sI S 0 0), false) else (sI (sE (sE (sE (sI S 0 0) 47 (mN S 49) h) 48 (mN S 49) r) 49 (mN S 49) (S.1 1)) 49 (nI ((mN S 49) + 1)), true)
def m_seal (S : MS) (v to b : Int32) : MS × Int32 := if (mN S 50) = 40 ∨ ¬ isIn v 0 1018 ∨ (b = 0 ∧ ¬ isKey S to) ∨ (¬ b = 0 ∧ ¬ isRule S to) then ((sI S 0 0), -1) else (sI (sE (sE (sE (sE (sI S 0 0) 50 (mN S 50) v) 51 (mN S 50) to) 56 (mN S 50) b) 52 (mN S 50) (-1)) 50 (nI ((mN S 50) + 1)), nI (mN S 50))
def m_says (S : MS) (h w y b : Int32) : MS × Bool := if (mN S 51) = 200 then (S, false) else (sI (sE (sE (sE (sE (sE S 53 (mN S 51) h) 54 (mN S 51) w) 55 (mN S 51) (S.1 1)) 58 (mN S 51) y) 59 (mN S 51) b) 51 (nI ((mN S 51) + 1)), true)
def m_say (S : MS) (h t y : Int32) : MS × Bool := if isHolder S h ∧ isThing S t then m_says (sI S 0 0) h t y 0 else ((sI S 0 0), false)
def m_mourn (S : MS) (h w y : Int32) : MS × Bool := if isHolder S h ∧ isHolder S w ∧ ¬ h = w then m_says (sI S 0 0) h w y 1 else ((sI S 0 0), false)
def m_ask (S : MS) (t : Int32) : MS × Bool := if ¬ isThing S t ∨ ¬ (S.2.1 52) t.toNatClampNeg = -1 then ((sI S 0 0), false) else (sE (sI S 0 0) 52 t.toNatClampNeg (S.1 1), true)
theorem lent_ok {S : MS} (hS : MOK S) {n : Int32} (h : isIn n 0 (nI (mN S 79) - 1)) : vp_in n 40 ∧ vp_in ((S.2.1 69) n.toNatClampNeg) 40 := by
  have b := hS.c79.2
  obtain ⟨j, hj, rfl⟩ := isIn_nat b (by decide) h
  exact ⟨vp_in_nI (by omega) (by decide), by rw [nI_clamp (by omega)]; exact hS.lent j hj⟩

set_option maxHeartbeats 4000000 in
set_option maxRecDepth 100000 in
theorem c_X3_burntFrom (l : Launch) (D : gD) (B : Nat × Nat) (K : KS) (S : MS) (h : gHp) (n : Nat) (k : Int32) (q : Int32) (hS : MOK S) : Con l yX3_burntFrom (ws_ yX3_burntFrom cX3_burntFrom 5 (some .int)) ({ frames := 0, cells := 0, slots := 0, locals := 0 }) D B [.ref 20, .int k, .int q] (wd K S h) n (gdt (some (.int (burntS S k q))) (wd K (S) h) n) 0 0 := by
  have b12 := hS.c12.2
  have b13 := hS.c13.2
  have b14 := hS.c14.2
  have b16 := hS.c16.2
  have b29 := hS.c29.2
  have b30 := hS.c30.2
  have b31 := hS.c31.2
  have b48 := hS.c48.2
  have b49 := hS.c49.2
  have b50 := hS.c50.2
  have b51 := hS.c51.2
  have b77 := hS.c77.2
  have b78 := hS.c78.2
  have b79 := hS.c79.2
  have b82 := hS.c82.2
  refine Con.begin [some (.ref 20), some (.int k), some (.int q), none, none] rfl rfl (Nat.le_of_ble_eq_true rfl) rfl rfl (fun X C R => ?_)
  refine g_iconst C (pc := 0) (v := (-1)) dX3_burntFrom_0 (by decide) ?_
  refine g_istore_n C (pc := 1) (L' := [some (.ref 20), some (.int k), some (.int q), some (.int (-1)), none]) dX3_burntFrom_1 (by decide) rfl rfl ?_
  refine g_iconst C (pc := 2) (v := 0) dX3_burntFrom_2 (by decide) ?_
  refine g_istore C (pc := 3) (L' := [some (.ref 20), some (.int k), some (.int q), some (.int (-1)), some (.int 0)]) dX3_burntFrom_3 (by decide) rfl rfl ?_
  have loop_5 : ∀ (d5 : Nat) (j : Nat) (x : Int32), (j ≤ (mN S 78)) → (x = burnU S.2.1 k q j) → (mN S 78) - j < d5 → G X D B (wd K S h) n 0 0 [some (.ref 20), some (.int k), some (.int q), some (.int x), some (.int (nI j))] 5 [] := by
    intro d5
    induction d5 with
    | zero =>
      intro j x hj hx hm5
      exact absurd hm5 (Nat.not_lt_zero _)
    | succ d5 ih5 =>
      intro j x hj hx hm5
      refine g_iload C (pc := 5) dX3_burntFrom_5 rfl ?_
      refine g_aload_n C (pc := 7) dX3_burntFrom_7 rfl rfl ?_
      refine m_geti C 78 (pc := 8) (v := nI (mN S 78)) dX3_burntFrom_8 rfl q1271 rfl hS.c78.1 ?_
      refine g_icmp_ge C (pc := 11) (tgt := 66) dX3_burntFrom_11 (by decide) (fun c_11 => ?_) (fun c_11 => ?_)
      · skip
        have c_11 : (mN S 78) ≤ j := Nat.not_lt.mp fun q => c_11 ((nI_ltI (a := j) (b := (mN S 78)) (by omega) (by omega)).mpr q)
        have hje : j = (mN S 78) := by omega
        subst hje
        refine g_iload_n C (pc := 66) dX3_burntFrom_66 rfl ?_
        exact g_iretD C R dX3_burntFrom_67 (Nat.le_refl _) (Nat.le_refl _) (hx) rfl rfl
      · skip
        have c_11 : j < (mN S 78) := (nI_ltI (a := j) (b := (mN S 78)) (by omega) (by omega)).mp c_11
        refine g_aload_n C (pc := 14) dX3_burntFrom_14 rfl rfl ?_
        refine m_geta C 69 66 (pc := 15) dX3_burntFrom_15 (by decide) (fun _ => rfl) q1262 rfl ?_
        refine g_iload C (pc := 18) dX3_burntFrom_18 rfl ?_
        refine m_iald C (pc := 20) (v := (S.2.1 66) j) dX3_burntFrom_20 (by decide) rfl (vp_in_nI (by omega) (by decide)) (gix (S.2.1 66) (by omega)) ?_
        refine g_iload_n C (pc := 21) dX3_burntFrom_21 rfl ?_
        refine g_icmp_ne C (pc := 22) (tgt := 60) dX3_burntFrom_22 (by decide) (fun c_22 => ?_) (fun c_22 => ?_)
        · skip
          have c_22 : ¬ (((S.2.1 66) j) : Int32) = k := c_22
          refine g_iinc C (pc := 60) (v := nI (j + 1)) (L' := [some (.ref 20), some (.int k), some (.int q), some (.int x), some (.int (nI (j + 1)))]) dX3_burntFrom_60 rfl (nI_inc _) (by decide) rfl rfl ?_
          refine g_goto C (pc := 63) (tgt := 5) dX3_burntFrom_63 (by decide) ?_
          refine G.mask [true, true, true, true, true] rfl ?_
          exact ih5 (j + 1) x (by omega) (by simp only [burnU]; rw [← hx]; first | (rw [if_pos (by grind)]; first | rfl | exact e_x_59) | (rw [if_neg (by grind)])) (by omega)
        · skip
          have c_22 : (((S.2.1 66) j) : Int32) = k := c_22
          refine g_aload_n C (pc := 25) dX3_burntFrom_25 rfl rfl ?_
          refine m_geta C 71 68 (pc := 26) dX3_burntFrom_26 (by decide) (fun _ => rfl) q1264 rfl ?_
          refine g_iload C (pc := 29) dX3_burntFrom_29 rfl ?_
          refine m_iald C (pc := 31) (v := (S.2.1 68) j) dX3_burntFrom_31 (by decide) rfl (vp_in_nI (by omega) (by decide)) (gix (S.2.1 68) (by omega)) ?_
          refine g_iload_n C (pc := 32) dX3_burntFrom_32 rfl ?_
          refine g_icmp_gt C (pc := 33) (tgt := 60) dX3_burntFrom_33 (by decide) (fun c_33 => ?_) (fun c_33 => ?_)
          · skip
            have c_33 : ((q) : Int32) < ((S.2.1 68) j) := c_33
            refine g_iinc C (pc := 60) (v := nI (j + 1)) (L' := [some (.ref 20), some (.int k), some (.int q), some (.int x), some (.int (nI (j + 1)))]) dX3_burntFrom_60 rfl (nI_inc _) (by decide) rfl rfl ?_
            refine g_goto C (pc := 63) (tgt := 5) dX3_burntFrom_63 (by decide) ?_
            refine G.mask [true, true, true, true, true] rfl ?_
            exact ih5 (j + 1) x (by omega) (by simp only [burnU]; rw [← hx]; first | (rw [if_pos (by grind)]; first | rfl | exact e_x_59) | (rw [if_neg (by grind)])) (by omega)
          · skip
            have c_33 : ¬ ((q) : Int32) < ((S.2.1 68) j) := c_33
            refine g_iload_n C (pc := 36) dX3_burntFrom_36 rfl ?_
            refine g_iconst C (pc := 37) (v := (-1)) dX3_burntFrom_37 (by decide) ?_
            refine g_icmp_eq C (pc := 38) (tgt := 52) dX3_burntFrom_38 (by decide) (fun c_38 => ?_) (fun c_38 => ?_)
            · skip
              have c_38 : ((x) : Int32) = -1 := c_38
              refine g_aload_n C (pc := 52) dX3_burntFrom_52 rfl rfl ?_
              refine m_geta C 70 67 (pc := 53) dX3_burntFrom_53 (by decide) (fun _ => rfl) q1263 rfl ?_
              refine g_iload C (pc := 56) dX3_burntFrom_56 rfl ?_
              refine m_iald C (pc := 58) (v := (S.2.1 67) j) dX3_burntFrom_58 (by decide) rfl (vp_in_nI (by omega) (by decide)) (gix (S.2.1 67) (by omega)) ?_
              refine G.topi (fun x_59 e_x_59 => ?_)
              have e_x_59 : x_59 = (S.2.1 67) j := e_x_59
              refine g_istore_n C (pc := 59) (L' := [some (.ref 20), some (.int k), some (.int q), some (.int x_59), some (.int (nI j))]) dX3_burntFrom_59 (by decide) rfl rfl ?_
              refine g_iinc C (pc := 60) (v := nI (j + 1)) (L' := [some (.ref 20), some (.int k), some (.int q), some (.int x_59), some (.int (nI (j + 1)))]) dX3_burntFrom_60 rfl (nI_inc _) (by decide) rfl rfl ?_
              refine g_goto C (pc := 63) (tgt := 5) dX3_burntFrom_63 (by decide) ?_
              refine G.mask [true, true, true, true, true] rfl ?_
              exact ih5 (j + 1) x_59 (by omega) (by simp only [burnU]; rw [← hx]; first | (rw [if_pos (by grind)]; first | rfl | exact e_x_59) | (rw [if_neg (by grind)])) (by omega)
            · skip
              have c_38 : ¬ ((x) : Int32) = -1 := c_38
              refine g_aload_n C (pc := 41) dX3_burntFrom_41 rfl rfl ?_
              refine m_geta C 70 67 (pc := 42) dX3_burntFrom_42 (by decide) (fun _ => rfl) q1263 rfl ?_
              refine g_iload C (pc := 45) dX3_burntFrom_45 rfl ?_
              refine m_iald C (pc := 47) (v := (S.2.1 67) j) dX3_burntFrom_47 (by decide) rfl (vp_in_nI (by omega) (by decide)) (gix (S.2.1 67) (by omega)) ?_
              refine g_iload_n C (pc := 48) dX3_burntFrom_48 rfl ?_
              refine g_icmp_ge C (pc := 49) (tgt := 60) dX3_burntFrom_49 (by decide) (fun c_49 => ?_) (fun c_49 => ?_)
              · skip
                have c_49 : ¬ (((S.2.1 67) j) : Int32) < x := c_49
                refine g_iinc C (pc := 60) (v := nI (j + 1)) (L' := [some (.ref 20), some (.int k), some (.int q), some (.int x), some (.int (nI (j + 1)))]) dX3_burntFrom_60 rfl (nI_inc _) (by decide) rfl rfl ?_
                refine g_goto C (pc := 63) (tgt := 5) dX3_burntFrom_63 (by decide) ?_
                refine G.mask [true, true, true, true, true] rfl ?_
                exact ih5 (j + 1) x (by omega) (by simp only [burnU]; rw [← hx]; first | (rw [if_pos (by grind)]; first | rfl | exact e_x_59) | (rw [if_neg (by grind)])) (by omega)
              · skip
                have c_49 : (((S.2.1 67) j) : Int32) < x := c_49
                refine g_aload_n C (pc := 52) dX3_burntFrom_52 rfl rfl ?_
                refine m_geta C 70 67 (pc := 53) dX3_burntFrom_53 (by decide) (fun _ => rfl) q1263 rfl ?_
                refine g_iload C (pc := 56) dX3_burntFrom_56 rfl ?_
                refine m_iald C (pc := 58) (v := (S.2.1 67) j) dX3_burntFrom_58 (by decide) rfl (vp_in_nI (by omega) (by decide)) (gix (S.2.1 67) (by omega)) ?_
                refine G.topi (fun x_59 e_x_59 => ?_)
                have e_x_59 : x_59 = (S.2.1 67) j := e_x_59
                refine g_istore_n C (pc := 59) (L' := [some (.ref 20), some (.int k), some (.int q), some (.int x_59), some (.int (nI j))]) dX3_burntFrom_59 (by decide) rfl rfl ?_
                refine g_iinc C (pc := 60) (v := nI (j + 1)) (L' := [some (.ref 20), some (.int k), some (.int q), some (.int x_59), some (.int (nI (j + 1)))]) dX3_burntFrom_60 rfl (nI_inc _) (by decide) rfl rfl ?_
                refine g_goto C (pc := 63) (tgt := 5) dX3_burntFrom_63 (by decide) ?_
                refine G.mask [true, true, true, true, true] rfl ?_
                exact ih5 (j + 1) x_59 (by omega) (by simp only [burnU]; rw [← hx]; first | (rw [if_pos (by grind)]; first | rfl | exact e_x_59) | (rw [if_neg (by grind)])) (by omega)
  refine G.mask [true, true, true, true, true] rfl ?_
  exact loop_5 _ 0 (-1) (Nat.zero_le _) (rfl) (Nat.lt_succ_self _)
theorem ds_X3_burntFrom : yX3_burntFrom.cls ≠ "java/lang/invoke/MethodHandle" ∧ yX3_burntFrom.cls ≠ "java/lang/invoke/VarHandle" ∧ (parseMethodDescriptor yX3_burntFrom.desc).map (fun d => d.parameters.length) = some 2 := by decide +kernel
set_option maxHeartbeats 4000000 in
set_option maxRecDepth 100000 in
theorem c_X3_maySign (l : Launch) (D : gD) (B : Nat × Nat) (K : KS) (S : MS) (h : gHp) (n : Nat) (k : Int32) (hS : MOK S) (hk : vp_in k 40) : Con l yX3_maySign (ws_ yX3_maySign cX3_maySign 3 (some .boolean)) ({ frames := 1, cells := 0, slots := 0, locals := 24 }) D B [.ref 20, .int k] (wd K S h) n (gdt (some (.int (p2i (maySign S k)))) (wd K (S) h) n) 0 0 := by
  have b12 := hS.c12.2
  have b13 := hS.c13.2
  have b14 := hS.c14.2
  have b16 := hS.c16.2
  have b29 := hS.c29.2
  have b30 := hS.c30.2
  have b31 := hS.c31.2
  have b48 := hS.c48.2
  have b49 := hS.c49.2
  have b50 := hS.c50.2
  have b51 := hS.c51.2
  have b77 := hS.c77.2
  have b78 := hS.c78.2
  have b79 := hS.c79.2
  have b82 := hS.c82.2
  refine Con.begin [some (.ref 20), some (.int k), none] rfl rfl (Nat.le_of_ble_eq_true rfl) rfl rfl (fun X C R => ?_)
  refine g_aload_n C (pc := 0) dX3_maySign_0 rfl rfl ?_
  refine g_iload_n C (pc := 1) dX3_maySign_1 rfl ?_
  refine g_aload_n C (pc := 2) dX3_maySign_2 rfl rfl ?_
  refine m_geti C 1 (pc := 3) (v := S.1 1) dX3_maySign_3 rfl q1194 rfl rfl ?_
  refine g_callVD C (pc := 6) [.int k, .int (S.1 1)] [] dX3_maySign_6 (c_X3_burntFrom l D B K S h n k (S.1 1) hS) (lw_V q1756 q1758 qs72 q87 q1759) (wd_20 _ _ _) rfl rfl ds_X3_burntFrom ⟨rfl, rfl⟩ ⟨Nat.le_of_ble_eq_true rfl, Nat.le_of_ble_eq_true rfl⟩ rfl rfl ⟨Nat.le_of_ble_eq_true rfl, Nat.le_of_ble_eq_true rfl⟩ (Nat.le_of_ble_eq_true rfl) rfl ?_
  refine G.topi (fun x_9 e_x_9 => ?_)
  have e_x_9 : x_9 = burntS S k (S.1 1) := e_x_9
  refine g_istore_n C (pc := 9) (L' := [some (.ref 20), some (.int k), some (.int x_9)]) dX3_maySign_9 (by decide) rfl rfl ?_
  refine g_iload_n C (pc := 10) dX3_maySign_10 rfl ?_
  refine g_iconst C (pc := 11) (v := (-1)) dX3_maySign_11 (by decide) ?_
  refine g_icmp_eq C (pc := 12) (tgt := 23) dX3_maySign_12 (by decide) (fun c_12 => ?_) (fun c_12 => ?_)
  · skip
    have c_12 : ((x_9) : Int32) = -1 := c_12
    refine g_aload_n C (pc := 23) dX3_maySign_23 rfl rfl ?_
    refine m_geta C 6 25 (pc := 24) dX3_maySign_24 (by decide) (fun _ => rfl) q1199 rfl ?_
    refine g_iload_n C (pc := 27) dX3_maySign_27 rfl ?_
    refine m_iald C (pc := 28) (v := (S.2.1 25) ((k).toNatClampNeg)) dX3_maySign_28 (by decide) rfl hk rfl ?_
    refine g_iconst C (pc := 29) (v := (-1)) dX3_maySign_29 (by decide) ?_
    refine g_icmp_ne C (pc := 30) (tgt := 37) dX3_maySign_30 (by decide) (fun c_30 => ?_) (fun c_30 => ?_)
    · skip
      have c_30 : ¬ (((S.2.1 25) ((k).toNatClampNeg)) : Int32) = -1 := c_30
      refine g_iconst C (pc := 37) (v := 0) dX3_maySign_37 (by decide) ?_
      exact g_zretD C (p2i_nb _) R dX3_maySign_38 (Nat.le_refl _) (Nat.le_refl _) ((p2i_f (by grind)).symm) rfl rfl
    · skip
      have c_30 : (((S.2.1 25) ((k).toNatClampNeg)) : Int32) = -1 := c_30
      refine g_iconst C (pc := 33) (v := 1) dX3_maySign_33 (by decide) ?_
      refine g_goto C (pc := 34) (tgt := 38) dX3_maySign_34 (by decide) ?_
      exact g_zretD C (p2i_nb _) R dX3_maySign_38 (Nat.le_refl _) (Nat.le_refl _) ((p2i_t (by grind)).symm) rfl rfl
  · skip
    have c_12 : ¬ ((x_9) : Int32) = -1 := c_12
    refine g_iload_n C (pc := 15) dX3_maySign_15 rfl ?_
    refine g_aload_n C (pc := 16) dX3_maySign_16 rfl rfl ?_
    refine m_geti C 1 (pc := 17) (v := S.1 1) dX3_maySign_17 rfl q1194 rfl rfl ?_
    refine g_icmp_le C (pc := 20) (tgt := 37) dX3_maySign_20 (by decide) (fun c_20 => ?_) (fun c_20 => ?_)
    · skip
      have c_20 : ¬ ((S.1 1) : Int32) < x_9 := c_20
      refine g_iconst C (pc := 37) (v := 0) dX3_maySign_37 (by decide) ?_
      exact g_zretD C (p2i_nb _) R dX3_maySign_38 (Nat.le_refl _) (Nat.le_refl _) ((p2i_f (by grind)).symm) rfl rfl
    · skip
      have c_20 : ((S.1 1) : Int32) < x_9 := c_20
      refine g_aload_n C (pc := 23) dX3_maySign_23 rfl rfl ?_
      refine m_geta C 6 25 (pc := 24) dX3_maySign_24 (by decide) (fun _ => rfl) q1199 rfl ?_
      refine g_iload_n C (pc := 27) dX3_maySign_27 rfl ?_
      refine m_iald C (pc := 28) (v := (S.2.1 25) ((k).toNatClampNeg)) dX3_maySign_28 (by decide) rfl hk rfl ?_
      refine g_iconst C (pc := 29) (v := (-1)) dX3_maySign_29 (by decide) ?_
      refine g_icmp_ne C (pc := 30) (tgt := 37) dX3_maySign_30 (by decide) (fun c_30 => ?_) (fun c_30 => ?_)
      · skip
        have c_30 : ¬ (((S.2.1 25) ((k).toNatClampNeg)) : Int32) = -1 := c_30
        refine g_iconst C (pc := 37) (v := 0) dX3_maySign_37 (by decide) ?_
        exact g_zretD C (p2i_nb _) R dX3_maySign_38 (Nat.le_refl _) (Nat.le_refl _) ((p2i_f (by grind)).symm) rfl rfl
      · skip
        have c_30 : (((S.2.1 25) ((k).toNatClampNeg)) : Int32) = -1 := c_30
        refine g_iconst C (pc := 33) (v := 1) dX3_maySign_33 (by decide) ?_
        refine g_goto C (pc := 34) (tgt := 38) dX3_maySign_34 (by decide) ?_
        exact g_zretD C (p2i_nb _) R dX3_maySign_38 (Nat.le_refl _) (Nat.le_refl _) ((p2i_t (by grind)).symm) rfl rfl
theorem ds_X3_maySign : yX3_maySign.cls ≠ "java/lang/invoke/MethodHandle" ∧ yX3_maySign.cls ≠ "java/lang/invoke/VarHandle" ∧ (parseMethodDescriptor yX3_maySign.desc).map (fun d => d.parameters.length) = some 1 := by decide +kernel
set_option maxHeartbeats 4000000 in
set_option maxRecDepth 100000 in
theorem c_X3_challenge (l : Launch) (D : gD) (B : Nat × Nat) (h : gHp) (n : Nat) (r : Int32) (v : Int32)  : Con l yX3_challenge (ws_ yX3_challenge cX3_challenge 2 (some .int)) ({ frames := 0, cells := 0, slots := 0, locals := 0 }) D B [.int r, .int v] h n (gdt (some (.int (chal r v))) h n) 0 0 := by
  refine Con.begin [some (.int r), some (.int v)] rfl rfl (Nat.le_of_ble_eq_true rfl) rfl rfl (fun X C R => ?_)
  refine g_iload_n C (pc := 0) dX3_challenge_0 rfl ?_
  refine g_bipush C (pc := 1) (v := 7) dX3_challenge_1 (by decide) ?_
  refine g_iload_n C (pc := 3) dX3_challenge_3 rfl ?_
  refine g_imul C (pc := 4) dX3_challenge_4 ?_
  refine g_iadd C (pc := 5) dX3_challenge_5 ?_
  refine g_sipush C (pc := 6) (v := 1019) dX3_challenge_6 (by decide) ?_
  refine g_irem C (pc := 9) dX3_challenge_9 (by decide) ?_
  exact g_iretD C R dX3_challenge_10 (Nat.le_refl _) (Nat.le_refl _) (rfl) rfl rfl
theorem ds_X3_challenge : yX3_challenge.cls ≠ "java/lang/invoke/MethodHandle" ∧ yX3_challenge.cls ≠ "java/lang/invoke/VarHandle" ∧ (parseMethodDescriptor yX3_challenge.desc).map (fun d => d.parameters.length) = some 2 := by decide +kernel
set_option maxHeartbeats 4000000 in
set_option maxRecDepth 100000 in
theorem c_X3_keeps (l : Launch) (D : gD) (B : Nat × Nat) (K : KS) (S : MS) (h : gHp) (n : Nat) (r : Int32) (s : Int32) (k : Int32) (t : Int32) (hS : MOK S) (hg : (mN S 77) < 80) : Con l yX3_keeps (ws_ yX3_keeps cX3_keeps 5 (some .int)) ({ frames := 0, cells := 0, slots := 0, locals := 0 }) D B [.ref 20, .int r, .int s, .int k, .int t] (wd K S h) n (gdt (some (.int (nI (mN S 77)))) (wd K (keepS S r s k t) h) n) 0 0 := by
  have b12 := hS.c12.2
  have b13 := hS.c13.2
  have b14 := hS.c14.2
  have b16 := hS.c16.2
  have b29 := hS.c29.2
  have b30 := hS.c30.2
  have b31 := hS.c31.2
  have b48 := hS.c48.2
  have b49 := hS.c49.2
  have b50 := hS.c50.2
  have b51 := hS.c51.2
  have b77 := hS.c77.2
  have b78 := hS.c78.2
  have b79 := hS.c79.2
  have b82 := hS.c82.2
  refine Con.begin [some (.ref 20), some (.int r), some (.int s), some (.int k), some (.int t)] rfl rfl (Nat.le_of_ble_eq_true rfl) rfl rfl (fun X C R => ?_)
  refine g_aload_n C (pc := 0) dX3_keeps_0 rfl rfl ?_
  refine m_geta C 64 61 (pc := 1) dX3_keeps_1 (by decide) (fun _ => rfl) q1257 rfl ?_
  refine g_aload_n C (pc := 4) dX3_keeps_4 rfl rfl ?_
  refine m_geti C 77 (pc := 5) (v := nI (mN S 77)) dX3_keeps_5 rfl q1270 rfl hS.c77.1 ?_
  refine g_iload_n C (pc := 8) dX3_keeps_8 rfl ?_
  refine m_iast C (pc := 9) (j := (mN S 77)) dX3_keeps_9 (by decide) rfl (vp_in_nI (by omega) (by decide)) (nI_clamp (by omega)) ?_
  refine g_aload_n C (pc := 10) dX3_keeps_10 rfl rfl ?_
  refine m_geta C 65 62 (pc := 11) dX3_keeps_11 (by decide) (fun _ => rfl) q1258 rfl ?_
  refine g_aload_n C (pc := 14) dX3_keeps_14 rfl rfl ?_
  refine m_geti C 77 (pc := 15) (v := nI (mN S 77)) dX3_keeps_15 rfl q1270 rfl hS.c77.1 ?_
  refine g_iload_n C (pc := 18) dX3_keeps_18 rfl ?_
  refine m_iast C (pc := 19) (j := (mN S 77)) dX3_keeps_19 (by decide) rfl (vp_in_nI (by omega) (by decide)) (nI_clamp (by omega)) ?_
  refine g_aload_n C (pc := 20) dX3_keeps_20 rfl rfl ?_
  refine m_geta C 66 63 (pc := 21) dX3_keeps_21 (by decide) (fun _ => rfl) q1259 rfl ?_
  refine g_aload_n C (pc := 24) dX3_keeps_24 rfl rfl ?_
  refine m_geti C 77 (pc := 25) (v := nI (mN S 77)) dX3_keeps_25 rfl q1270 rfl hS.c77.1 ?_
  refine g_iload_n C (pc := 28) dX3_keeps_28 rfl ?_
  refine m_iast C (pc := 29) (j := (mN S 77)) dX3_keeps_29 (by decide) rfl (vp_in_nI (by omega) (by decide)) (nI_clamp (by omega)) ?_
  refine g_aload_n C (pc := 30) dX3_keeps_30 rfl rfl ?_
  refine m_geta C 67 64 (pc := 31) dX3_keeps_31 (by decide) (fun _ => rfl) q1260 rfl ?_
  refine g_aload_n C (pc := 34) dX3_keeps_34 rfl rfl ?_
  refine m_geti C 77 (pc := 35) (v := nI (mN S 77)) dX3_keeps_35 rfl q1270 rfl hS.c77.1 ?_
  refine g_iload C (pc := 38) dX3_keeps_38 rfl ?_
  refine m_iast C (pc := 40) (j := (mN S 77)) dX3_keeps_40 (by decide) rfl (vp_in_nI (by omega) (by decide)) (nI_clamp (by omega)) ?_
  refine g_aload_n C (pc := 41) dX3_keeps_41 rfl rfl ?_
  refine m_geta C 68 65 (pc := 42) dX3_keeps_42 (by decide) (fun _ => rfl) q1261 rfl ?_
  refine g_aload_n C (pc := 45) dX3_keeps_45 rfl rfl ?_
  refine m_geti C 77 (pc := 46) (v := nI (mN S 77)) dX3_keeps_46 rfl q1270 rfl hS.c77.1 ?_
  refine g_aload_n C (pc := 49) dX3_keeps_49 rfl rfl ?_
  refine m_geti C 1 (pc := 50) (v := S.1 1) dX3_keeps_50 rfl q1194 rfl rfl ?_
  refine m_iast C (pc := 53) (j := (mN S 77)) dX3_keeps_53 (by decide) rfl (vp_in_nI (by omega) (by decide)) (nI_clamp (by omega)) ?_
  refine g_aload_n C (pc := 54) dX3_keeps_54 rfl rfl ?_
  refine g_dup C (pc := 55) dX3_keeps_55 rfl ?_
  refine m_geti C 77 (pc := 56) (v := nI (mN S 77)) dX3_keeps_56 rfl q1270 rfl hS.c77.1 ?_
  refine g_iconst C (pc := 59) (v := 1) dX3_keeps_59 (by decide) ?_
  refine g_iadd C (pc := 60) dX3_keeps_60 ?_
  refine G.topc (nI_1 _) ?_
  refine m_puti C 77 (pc := 61) dX3_keeps_61 rfl q1270 rfl rfl rfl ?_
  refine g_aload_n C (pc := 64) dX3_keeps_64 rfl rfl ?_
  refine m_geti C 77 (pc := 65) (v := nI ((mN S 77) + 1)) dX3_keeps_65 rfl q1270 rfl rfl ?_
  refine g_iconst C (pc := 68) (v := 1) dX3_keeps_68 (by decide) ?_
  refine g_isub C (pc := 69) dX3_keeps_69 ?_
  refine G.topc (nI_pred _) ?_
  exact g_iretD C R dX3_keeps_70 (Nat.le_refl _) (Nat.le_refl _) (rfl) (congrArg (fun z => wd K z h) (rfl)) rfl
theorem ds_X3_keeps : yX3_keeps.cls ≠ "java/lang/invoke/MethodHandle" ∧ yX3_keeps.cls ≠ "java/lang/invoke/VarHandle" ∧ (parseMethodDescriptor yX3_keeps.desc).map (fun d => d.parameters.length) = some 4 := by decide +kernel
set_option maxHeartbeats 4000000 in
set_option maxRecDepth 100000 in
theorem c_X3_signs (l : Launch) (D : gD) (B : Nat × Nat) (K : KS) (S : MS) (h : gHp) (n : Nat) (k : Int32) (t : Int32) (x : Int32) (hS : MOK S) (hg : (mN S 77) < 80) (hk : vp_in k 40) (ht : vp_in t 40) : Con l yX3_signs (ws_ yX3_signs cX3_signs 5 (some .int)) ({ frames := 2, cells := 0, slots := 0, locals := 44 }) D B [.ref 20, .int k, .int t, .int x] (wd K S h) n (gdt (some (.int (nI (mN S 77)))) (wd K (signS S k t x) h) n) 0 0 := by
  have b12 := hS.c12.2
  have b13 := hS.c13.2
  have b14 := hS.c14.2
  have b16 := hS.c16.2
  have b29 := hS.c29.2
  have b30 := hS.c30.2
  have b31 := hS.c31.2
  have b48 := hS.c48.2
  have b49 := hS.c49.2
  have b50 := hS.c50.2
  have b51 := hS.c51.2
  have b77 := hS.c77.2
  have b78 := hS.c78.2
  have b79 := hS.c79.2
  have b82 := hS.c82.2
  refine Con.begin [some (.ref 20), some (.int k), some (.int t), some (.int x), none] rfl rfl (Nat.le_of_ble_eq_true rfl) rfl rfl (fun X C R => ?_)
  refine g_iload_n C (pc := 0) dX3_signs_0 rfl ?_
  refine g_callSD C (pc := 1) [.int x] [] dX3_signs_1 (c_X3_four l D B (wd K S h) n x ) (lw_S q1500 q1501 q87 q1502) ds_X3_four ⟨rfl, rfl⟩ ⟨Nat.le_of_ble_eq_true rfl, Nat.le_of_ble_eq_true rfl⟩ rfl rfl ⟨Nat.le_of_ble_eq_true rfl, Nat.le_of_ble_eq_true rfl⟩ (Nat.le_of_ble_eq_true rfl) rfl ?_
  refine G.topi (fun x_4 e_x_4 => ?_)
  have e_x_4 : x_4 = four x := e_x_4
  refine g_istore C (pc := 4) (L' := [some (.ref 20), some (.int k), some (.int t), some (.int x), some (.int x_4)]) dX3_signs_4 (by decide) rfl rfl ?_
  refine g_aload_n C (pc := 6) dX3_signs_6 rfl rfl ?_
  refine g_iload C (pc := 7) dX3_signs_7 rfl ?_
  refine g_iload_n C (pc := 9) dX3_signs_9 rfl ?_
  refine g_iload C (pc := 10) dX3_signs_10 rfl ?_
  refine g_aload_n C (pc := 12) dX3_signs_12 rfl rfl ?_
  refine m_geta C 38 50 (pc := 13) dX3_signs_13 (by decide) (fun _ => rfl) q1231 rfl ?_
  refine g_iload_n C (pc := 16) dX3_signs_16 rfl ?_
  refine m_iald C (pc := 17) (v := (S.2.1 50) ((t).toNatClampNeg)) dX3_signs_17 (by decide) rfl ht rfl ?_
  refine g_callSD C (pc := 18) [.int x_4, .int ((S.2.1 50) ((t).toNatClampNeg))] [.int x, .int x_4, .ref 20] dX3_signs_18 (c_X3_challenge l D B (wd K S h) n x_4 ((S.2.1 50) ((t).toNatClampNeg)) ) (lw_S q1764 q1765 q87 q1766) ds_X3_challenge ⟨rfl, rfl⟩ ⟨Nat.le_of_ble_eq_true rfl, Nat.le_of_ble_eq_true rfl⟩ rfl rfl ⟨Nat.le_of_ble_eq_true rfl, Nat.le_of_ble_eq_true rfl⟩ (Nat.le_of_ble_eq_true rfl) rfl ?_
  refine g_aload_n C (pc := 21) dX3_signs_21 rfl rfl ?_
  refine m_geta C 3 22 (pc := 22) dX3_signs_22 (by decide) (fun _ => rfl) q1196 rfl ?_
  refine g_iload_n C (pc := 25) dX3_signs_25 rfl ?_
  refine m_iald C (pc := 26) (v := (S.2.1 22) ((k).toNatClampNeg)) dX3_signs_26 (by decide) rfl hk rfl ?_
  refine g_imul C (pc := 27) dX3_signs_27 ?_
  refine g_iadd C (pc := 28) dX3_signs_28 ?_
  refine g_sipush C (pc := 29) (v := 1019) dX3_signs_29 (by decide) ?_
  refine g_irem C (pc := 32) dX3_signs_32 (by decide) ?_
  refine g_iload_n C (pc := 33) dX3_signs_33 rfl ?_
  refine g_iload_n C (pc := 34) dX3_signs_34 rfl ?_
  refine g_callVD C (pc := 35) [.int x_4, .int (jrem (x + ((chal x_4 ((S.2.1 50) ((t).toNatClampNeg))) * ((S.2.1 22) ((k).toNatClampNeg)))) 1019), .int k, .int t] [] dX3_signs_35 (c_X3_keeps l D B K S h n x_4 (jrem (x + ((chal x_4 ((S.2.1 50) ((t).toNatClampNeg))) * ((S.2.1 22) ((k).toNatClampNeg)))) 1019) k t hS hg) (lw_V q1767 q1769 qs74 q87 q1770) (wd_20 _ _ _) rfl rfl ds_X3_keeps ⟨rfl, rfl⟩ ⟨Nat.le_of_ble_eq_true rfl, Nat.le_of_ble_eq_true rfl⟩ rfl rfl ⟨Nat.le_of_ble_eq_true rfl, Nat.le_of_ble_eq_true rfl⟩ (Nat.le_of_ble_eq_true rfl) rfl ?_
  refine G.nmS (fun S_35 e_S_35 => ?_)
  exact g_iretD C R dX3_signs_38 (Nat.le_refl _) (Nat.le_refl _) (rfl) (congrArg (fun z => wd K z h) (by rw [e_S_35, e_x_4]; rfl)) rfl
theorem ds_X3_signs : yX3_signs.cls ≠ "java/lang/invoke/MethodHandle" ∧ yX3_signs.cls ≠ "java/lang/invoke/VarHandle" ∧ (parseMethodDescriptor yX3_signs.desc).map (fun d => d.parameters.length) = some 3 := by decide +kernel
set_option maxHeartbeats 4000000 in
set_option maxRecDepth 100000 in
theorem c_X3_sign (l : Launch) (D : gD) (B : Nat × Nat) (K : KS) (S : MS) (h : gHp) (n : Nat) (a : Int32) (k : Int32) (t : Int32) (x : Int32) (hS : MOK S) : Con l yX3_sign (ws_ yX3_sign cX3_sign 5 (some .int)) ({ frames := 3, cells := 0, slots := 0, locals := 74 }) D B [.ref 20, .int a, .int k, .int t, .int x] (wd K S h) n (gdt (some (.int ((m_sign S a k t x).2))) (wd K ((m_sign S a k t x).1) h) n) 0 0 := by
  have b12 := hS.c12.2
  have b13 := hS.c13.2
  have b14 := hS.c14.2
  have b16 := hS.c16.2
  have b29 := hS.c29.2
  have b30 := hS.c30.2
  have b31 := hS.c31.2
  have b48 := hS.c48.2
  have b49 := hS.c49.2
  have b50 := hS.c50.2
  have b51 := hS.c51.2
  have b77 := hS.c77.2
  have b78 := hS.c78.2
  have b79 := hS.c79.2
  have b82 := hS.c82.2
  refine Con.begin [some (.ref 20), some (.int a), some (.int k), some (.int t), some (.int x)] rfl rfl (Nat.le_of_ble_eq_true rfl) rfl rfl (fun X C R => ?_)
  refine g_aload_n C (pc := 0) dX3_sign_0 rfl rfl ?_
  refine g_iconst C (pc := 1) (v := 0) dX3_sign_1 (by decide) ?_
  refine m_puti C 0 (pc := 2) dX3_sign_2 rfl q1193 rfl rfl rfl ?_
  refine g_aload_n C (pc := 5) dX3_sign_5 rfl rfl ?_
  refine m_geti C 77 (pc := 6) (v := nI (mN S 77)) dX3_sign_6 rfl q1270 rfl hS.c77.1 ?_
  refine g_bipush C (pc := 9) (v := 80) dX3_sign_9 (by decide) ?_
  refine g_icmp_eq C (pc := 11) (tgt := 78) dX3_sign_11 (by decide) (fun c_11 => ?_) (fun c_11 => ?_)
  · skip
    have c_11 : (mN S 77) = 80 := (nI_eq (a := (mN S 77)) (b := 80) (by omega) (by omega)).mp c_11
    refine g_iconst C (pc := 78) (v := (-1)) dX3_sign_78 (by decide) ?_
    exact g_iretD C R dX3_sign_79 (Nat.le_refl _) (Nat.le_refl _) (by subst_vars; unfold m_sign; first | (rw [if_neg (by grind)]; first | (rw [if_pos c_75]; done) | (rw [if_neg c_75]; done) | (rw [if_pos c_75]; rfl) | (rw [if_neg c_75]; rfl)) | (rw [if_pos (by grind)])) (congrArg (fun z => wd K z h) (by subst_vars; unfold m_sign; first | (rw [if_neg (by grind)]; first | (rw [if_neg c_75]; done) | (rw [if_pos c_75]; done)) | (rw [if_pos (by grind)]))) rfl
  · skip
    have c_11 : ¬ (mN S 77) = 80 := fun q => c_11 ((nI_eq (a := (mN S 77)) (b := 80) (by omega) (by omega)).mpr q)
    refine g_aload_n C (pc := 14) dX3_sign_14 rfl rfl ?_
    refine g_iload_n C (pc := 15) dX3_sign_15 rfl ?_
    refine g_callVD C (pc := 16) [.int a] [] dX3_sign_16 (c_X3_isHolder l D B K (sI S 0 0) h n a ) (lw_V q1514 q1516 qs40 q87 q1517) (wd_20 _ _ _) rfl rfl ds_X3_isHolder ⟨rfl, rfl⟩ ⟨Nat.le_of_ble_eq_true rfl, Nat.le_of_ble_eq_true rfl⟩ rfl rfl ⟨Nat.le_of_ble_eq_true rfl, Nat.le_of_ble_eq_true rfl⟩ (Nat.le_of_ble_eq_true rfl) rfl ?_
    refine g_if_eq C (pc := 19) (tgt := 78) dX3_sign_19 (by decide) (fun c_19 => ?_) (fun c_19 => ?_)
    · skip
      have c_19 : ¬ (isHolder S a) := p2i_0.mp c_19
      refine g_iconst C (pc := 78) (v := (-1)) dX3_sign_78 (by decide) ?_
      exact g_iretD C R dX3_sign_79 (Nat.le_refl _) (Nat.le_refl _) (by subst_vars; unfold m_sign; first | (rw [if_neg (by grind)]; first | (rw [if_pos c_75]; done) | (rw [if_neg c_75]; done) | (rw [if_pos c_75]; rfl) | (rw [if_neg c_75]; rfl)) | (rw [if_pos (by grind)])) (congrArg (fun z => wd K z h) (by subst_vars; unfold m_sign; first | (rw [if_neg (by grind)]; first | (rw [if_neg c_75]; done) | (rw [if_pos c_75]; done)) | (rw [if_pos (by grind)]))) rfl
    · skip
      have c_19 : (isHolder S a) := p2i_n0.mp c_19
      refine g_aload_n C (pc := 22) dX3_sign_22 rfl rfl ?_
      refine g_iload_n C (pc := 23) dX3_sign_23 rfl ?_
      refine g_callVD C (pc := 24) [.int k] [] dX3_sign_24 (c_X3_isKey l D B K (sI S 0 0) h n k ) (lw_V q1492 q1494 qs38 q87 q1495) (wd_20 _ _ _) rfl rfl ds_X3_isKey ⟨rfl, rfl⟩ ⟨Nat.le_of_ble_eq_true rfl, Nat.le_of_ble_eq_true rfl⟩ rfl rfl ⟨Nat.le_of_ble_eq_true rfl, Nat.le_of_ble_eq_true rfl⟩ (Nat.le_of_ble_eq_true rfl) rfl ?_
      refine g_if_eq C (pc := 27) (tgt := 78) dX3_sign_27 (by decide) (fun c_27 => ?_) (fun c_27 => ?_)
      · skip
        have c_27 : ¬ (isKey S k) := p2i_0.mp c_27
        refine g_iconst C (pc := 78) (v := (-1)) dX3_sign_78 (by decide) ?_
        exact g_iretD C R dX3_sign_79 (Nat.le_refl _) (Nat.le_refl _) (by subst_vars; unfold m_sign; first | (rw [if_neg (by grind)]; first | (rw [if_pos c_75]; done) | (rw [if_neg c_75]; done) | (rw [if_pos c_75]; rfl) | (rw [if_neg c_75]; rfl)) | (rw [if_pos (by grind)])) (congrArg (fun z => wd K z h) (by subst_vars; unfold m_sign; first | (rw [if_neg (by grind)]; first | (rw [if_neg c_75]; done) | (rw [if_pos c_75]; done)) | (rw [if_pos (by grind)]))) rfl
      · skip
        have c_27 : (isKey S k) := p2i_n0.mp c_27
        refine g_aload_n C (pc := 30) dX3_sign_30 rfl rfl ?_
        refine g_iload_n C (pc := 31) dX3_sign_31 rfl ?_
        refine g_callVD C (pc := 32) [.int t] [] dX3_sign_32 (c_X3_isThing l D B K (sI S 0 0) h n t ) (lw_V q1705 q1707 qs66 q87 q1708) (wd_20 _ _ _) rfl rfl ds_X3_isThing ⟨rfl, rfl⟩ ⟨Nat.le_of_ble_eq_true rfl, Nat.le_of_ble_eq_true rfl⟩ rfl rfl ⟨Nat.le_of_ble_eq_true rfl, Nat.le_of_ble_eq_true rfl⟩ (Nat.le_of_ble_eq_true rfl) rfl ?_
        refine g_if_eq C (pc := 35) (tgt := 78) dX3_sign_35 (by decide) (fun c_35 => ?_) (fun c_35 => ?_)
        · skip
          have c_35 : ¬ (isThing S t) := p2i_0.mp c_35
          refine g_iconst C (pc := 78) (v := (-1)) dX3_sign_78 (by decide) ?_
          exact g_iretD C R dX3_sign_79 (Nat.le_refl _) (Nat.le_refl _) (by subst_vars; unfold m_sign; first | (rw [if_neg (by grind)]; first | (rw [if_pos c_75]; done) | (rw [if_neg c_75]; done) | (rw [if_pos c_75]; rfl) | (rw [if_neg c_75]; rfl)) | (rw [if_pos (by grind)])) (congrArg (fun z => wd K z h) (by subst_vars; unfold m_sign; first | (rw [if_neg (by grind)]; first | (rw [if_neg c_75]; done) | (rw [if_pos c_75]; done)) | (rw [if_pos (by grind)]))) rfl
        · skip
          have c_35 : (isThing S t) := p2i_n0.mp c_35
          refine g_iload C (pc := 38) dX3_sign_38 rfl ?_
          refine g_iconst C (pc := 40) (v := 1) dX3_sign_40 (by decide) ?_
          refine g_sipush C (pc := 41) (v := 1018) dX3_sign_41 (by decide) ?_
          refine g_callSD C (pc := 44) [.int x, .int 1, .int 1018] [] dX3_sign_44 (c_X3_isIn l D B (wd K (sI S 0 0) h) n x 1 1018 ) (lw_S q1458 q1459 q87 q1460) ds_X3_isIn ⟨rfl, rfl⟩ ⟨Nat.le_of_ble_eq_true rfl, Nat.le_of_ble_eq_true rfl⟩ rfl rfl ⟨Nat.le_of_ble_eq_true rfl, Nat.le_of_ble_eq_true rfl⟩ (Nat.le_of_ble_eq_true rfl) rfl ?_
          refine g_if_eq C (pc := 47) (tgt := 78) dX3_sign_47 (by decide) (fun c_47 => ?_) (fun c_47 => ?_)
          · skip
            have c_47 : ¬ (isIn x 1 1018) := p2i_0.mp c_47
            refine g_iconst C (pc := 78) (v := (-1)) dX3_sign_78 (by decide) ?_
            exact g_iretD C R dX3_sign_79 (Nat.le_refl _) (Nat.le_refl _) (by subst_vars; unfold m_sign; first | (rw [if_neg (by grind)]; first | (rw [if_pos c_75]; done) | (rw [if_neg c_75]; done) | (rw [if_pos c_75]; rfl) | (rw [if_neg c_75]; rfl)) | (rw [if_pos (by grind)])) (congrArg (fun z => wd K z h) (by subst_vars; unfold m_sign; first | (rw [if_neg (by grind)]; first | (rw [if_neg c_75]; done) | (rw [if_pos c_75]; done)) | (rw [if_pos (by grind)]))) rfl
          · skip
            have c_47 : (isIn x 1 1018) := p2i_n0.mp c_47
            refine g_aload_n C (pc := 50) dX3_sign_50 rfl rfl ?_
            refine g_iload_n C (pc := 51) dX3_sign_51 rfl ?_
            refine g_callVD C (pc := 52) [.int k] [] dX3_sign_52 (c_X3_maySign l D B K (sI S 0 0) h n k (hS.setI 0 rfl) (isKey.inr hS c_27)) (lw_V q1752 q1754 qs71 q87 q1755) (wd_20 _ _ _) rfl rfl ds_X3_maySign ⟨rfl, rfl⟩ ⟨Nat.le_of_ble_eq_true rfl, Nat.le_of_ble_eq_true rfl⟩ rfl rfl ⟨Nat.le_of_ble_eq_true rfl, Nat.le_of_ble_eq_true rfl⟩ (Nat.le_of_ble_eq_true rfl) rfl ?_
            refine g_if_eq C (pc := 55) (tgt := 78) dX3_sign_55 (by decide) (fun c_55 => ?_) (fun c_55 => ?_)
            · skip
              have c_55 : ¬ (maySign S k) := p2i_0.mp c_55
              refine g_iconst C (pc := 78) (v := (-1)) dX3_sign_78 (by decide) ?_
              exact g_iretD C R dX3_sign_79 (Nat.le_refl _) (Nat.le_refl _) (by subst_vars; unfold m_sign; first | (rw [if_neg (by grind)]; first | (rw [if_pos c_75]; done) | (rw [if_neg c_75]; done) | (rw [if_pos c_75]; rfl) | (rw [if_neg c_75]; rfl)) | (rw [if_pos (by grind)])) (congrArg (fun z => wd K z h) (by subst_vars; unfold m_sign; first | (rw [if_neg (by grind)]; first | (rw [if_neg c_75]; done) | (rw [if_pos c_75]; done)) | (rw [if_pos (by grind)]))) rfl
            · skip
              have c_55 : (maySign S k) := p2i_n0.mp c_55
              refine g_aload_n C (pc := 58) dX3_sign_58 rfl rfl ?_
              refine g_iconst C (pc := 59) (v := 1) dX3_sign_59 (by decide) ?_
              refine g_iload_n C (pc := 60) dX3_sign_60 rfl ?_
              refine g_ishl C (pc := 61) dX3_sign_61 ?_
              refine g_aload_n C (pc := 62) dX3_sign_62 rfl rfl ?_
              refine m_geti C 1 (pc := 63) (v := S.1 1) dX3_sign_63 rfl q1194 rfl rfl ?_
              refine g_callVD C (pc := 66) [.int (1 <<< (a &&& 31)), .int (S.1 1)] [] dX3_sign_66 (c_X3_gets l D B K (sI S 0 0) h n (1 <<< (a &&& 31)) (S.1 1) (hS.setI 0 rfl)) (lw_V q1611 q1613 qs48 q87 q1614) (wd_20 _ _ _) rfl rfl ds_X3_gets ⟨rfl, rfl⟩ ⟨Nat.le_of_ble_eq_true rfl, Nat.le_of_ble_eq_true rfl⟩ rfl rfl ⟨Nat.le_of_ble_eq_true rfl, Nat.le_of_ble_eq_true rfl⟩ (Nat.le_of_ble_eq_true rfl) rfl ?_
              refine G.nmS (fun S_66 e_S_66 => ?_)
              refine g_iload_n C (pc := 69) dX3_sign_69 rfl ?_
              refine g_lshr C (pc := 70) (v := jlshr (getsS S (1 <<< (a &&& 31)) (S.1 1)) k) dX3_sign_70 rfl ?_
              refine g_lconst C (pc := 71) (v := 1) dX3_sign_71 (by decide) ?_
              refine g_land C (pc := 72) dX3_sign_72 ?_
              refine g_lconst C (pc := 73) (v := 0) dX3_sign_73 (by decide) ?_
              refine g_lcmp C (pc := 74) dX3_sign_74 ?_
              refine g_if_ne C (pc := 75) (tgt := 80) dX3_sign_75 (by decide) (fun c_75 => ?_) (fun c_75 => ?_)
              · skip
                have c_75 := lcmp_n0.mp c_75
                refine g_aload_n C (pc := 80) dX3_sign_80 rfl rfl ?_
                refine g_iload_n C (pc := 81) dX3_sign_81 rfl ?_
                refine g_iload_n C (pc := 82) dX3_sign_82 rfl ?_
                refine g_iload C (pc := 83) dX3_sign_83 rfl ?_
                refine g_callVD C (pc := 85) [.int k, .int t, .int x] [] dX3_sign_85 (c_X3_signs l D B K S_66 h n k t x (by rw [e_S_66]; exact hS.setI (f := 0) 0 rfl) (by rw [e_S_66]; show (mN S 77) < 80; omega) (isKey.inr hS c_27) (isThing.inr hS c_35)) (lw_V q1760 q1762 qs73 q87 q1763) (wd_20 _ _ _) rfl rfl ds_X3_signs ⟨rfl, rfl⟩ ⟨Nat.le_of_ble_eq_true rfl, Nat.le_of_ble_eq_true rfl⟩ rfl rfl ⟨Nat.le_of_ble_eq_true rfl, Nat.le_of_ble_eq_true rfl⟩ (Nat.le_of_ble_eq_true rfl) rfl ?_
                refine G.nmS (fun S_85 e_S_85 => ?_)
                exact g_iretD C R dX3_sign_88 (Nat.le_refl _) (Nat.le_refl _) (by subst_vars; unfold m_sign; first | (rw [if_neg (by grind)]; first | (rw [if_pos c_75]; done) | (rw [if_neg c_75]; done) | (rw [if_pos c_75]; rfl) | (rw [if_neg c_75]; rfl)) | (rw [if_pos (by grind)])) (congrArg (fun z => wd K z h) (by subst_vars; unfold m_sign; first | (rw [if_neg (by grind)]; first | (rw [if_neg c_75]; done) | (rw [if_pos c_75]; done)) | (rw [if_pos (by grind)]))) rfl
              · skip
                have c_75 := lcmp_0.mp c_75
                refine g_iconst C (pc := 78) (v := (-1)) dX3_sign_78 (by decide) ?_
                exact g_iretD C R dX3_sign_79 (Nat.le_refl _) (Nat.le_refl _) (by subst_vars; unfold m_sign; first | (rw [if_neg (by grind)]; first | (rw [if_pos c_75]; done) | (rw [if_neg c_75]; done) | (rw [if_pos c_75]; rfl) | (rw [if_neg c_75]; rfl)) | (rw [if_pos (by grind)])) (congrArg (fun z => wd K z h) (by subst_vars; unfold m_sign; first | (rw [if_neg (by grind)]; first | (rw [if_neg c_75]; done) | (rw [if_pos c_75]; done)) | (rw [if_pos (by grind)]))) rfl
theorem ds_X3_sign : yX3_sign.cls ≠ "java/lang/invoke/MethodHandle" ∧ yX3_sign.cls ≠ "java/lang/invoke/VarHandle" ∧ (parseMethodDescriptor yX3_sign.desc).map (fun d => d.parameters.length) = some 4 := by decide +kernel
set_option maxHeartbeats 4000000 in
set_option maxRecDepth 100000 in
theorem c_X3_falsely (l : Launch) (D : gD) (B : Nat × Nat) (K : KS) (S : MS) (h : gHp) (n : Nat) (a : Int32) (z : Int32) (hS : MOK S) (hz : nb z = z) : Con l yX3_falsely (ws_ yX3_falsely cX3_falsely 3 (some .boolean)) ({ frames := 1, cells := 0, slots := 0, locals := 21 }) D B [.ref 20, .int a, .int z] (wd K S h) n (gdt (some (.int (b2i (m_falsely S a z).2))) (wd K ((m_falsely S a z).1) h) n) 0 0 := by
  have b12 := hS.c12.2
  have b13 := hS.c13.2
  have b14 := hS.c14.2
  have b16 := hS.c16.2
  have b29 := hS.c29.2
  have b30 := hS.c30.2
  have b31 := hS.c31.2
  have b48 := hS.c48.2
  have b49 := hS.c49.2
  have b50 := hS.c50.2
  have b51 := hS.c51.2
  have b77 := hS.c77.2
  have b78 := hS.c78.2
  have b79 := hS.c79.2
  have b82 := hS.c82.2
  refine Con.begin [some (.ref 20), some (.int a), some (.int z)] rfl rfl (Nat.le_of_ble_eq_true rfl) rfl rfl (fun X C R => ?_)
  refine g_aload_n C (pc := 0) dX3_falsely_0 rfl rfl ?_
  refine g_iconst C (pc := 1) (v := 0) dX3_falsely_1 (by decide) ?_
  refine m_puti C 0 (pc := 2) dX3_falsely_2 rfl q1193 rfl rfl rfl ?_
  refine g_aload_n C (pc := 5) dX3_falsely_5 rfl rfl ?_
  refine g_iload_n C (pc := 6) dX3_falsely_6 rfl ?_
  refine g_callVD C (pc := 7) [.int a] [] dX3_falsely_7 (c_X3_isHolder l D B K (sI S 0 0) h n a ) (lw_V q1514 q1516 qs40 q87 q1517) (wd_20 _ _ _) rfl rfl ds_X3_isHolder ⟨rfl, rfl⟩ ⟨Nat.le_of_ble_eq_true rfl, Nat.le_of_ble_eq_true rfl⟩ rfl rfl ⟨Nat.le_of_ble_eq_true rfl, Nat.le_of_ble_eq_true rfl⟩ (Nat.le_of_ble_eq_true rfl) rfl ?_
  refine g_if_eq C (pc := 10) (tgt := 23) dX3_falsely_10 (by decide) (fun c_10 => ?_) (fun c_10 => ?_)
  · skip
    have c_10 : ¬ (isHolder S a) := p2i_0.mp c_10
    refine g_iconst C (pc := 23) (v := 0) dX3_falsely_23 (by decide) ?_
    exact g_zretD C (b2i_nb _) R dX3_falsely_24 (Nat.le_refl _) (Nat.le_refl _) (by unfold m_falsely; first | (rw [if_pos (by  grind)] <;> first | rfl | (simp [mN_sI_ne, sI_2, p2i, b2i, *]; done) | grind) | (rw [if_neg (by  grind)] <;> first | rfl | (simp [mN_sI_ne, sI_2, p2i, b2i, *]; done) | grind)) (congrArg (fun z => wd K z h) (by unfold m_falsely; first | (rw [if_pos (by  grind)] <;> first | rfl | (simp [mN_sI_ne, sI_2, p2i, b2i, *]; done) | grind) | (rw [if_neg (by  grind)] <;> first | rfl | (simp [mN_sI_ne, sI_2, p2i, b2i, *]; done) | grind))) rfl
  · skip
    have c_10 : (isHolder S a) := p2i_n0.mp c_10
    refine g_aload_n C (pc := 13) dX3_falsely_13 rfl rfl ?_
    refine m_geta C 11 30 (pc := 14) dX3_falsely_14 (by decide) (fun _ => rfl) q1204 rfl ?_
    refine g_iload_n C (pc := 17) dX3_falsely_17 rfl ?_
    refine m_zald C (pc := 18) (v := nb ((S.2.1 30) ((a).toNatClampNeg))) dX3_falsely_18 (by decide) rfl (isHolder.inr hS c_10) rfl ?_
    refine g_iload_n C (pc := 19) dX3_falsely_19 rfl ?_
    refine g_icmp_ne C (pc := 20) (tgt := 25) dX3_falsely_20 (by decide) (fun c_20 => ?_) (fun c_20 => ?_)
    · skip
      have c_20 : ¬ ((nb ((S.2.1 30) ((a).toNatClampNeg))) : Int32) = z := c_20
      refine g_aload_n C (pc := 25) dX3_falsely_25 rfl rfl ?_
      refine m_geta C 11 30 (pc := 26) dX3_falsely_26 (by decide) (fun _ => rfl) q1204 rfl ?_
      refine g_iload_n C (pc := 29) dX3_falsely_29 rfl ?_
      refine g_iload_n C (pc := 30) dX3_falsely_30 rfl ?_
      refine m_zast C (pc := 31) (j := (a).toNatClampNeg) dX3_falsely_31 (by decide) rfl (isHolder.inr hS c_10) rfl hz ?_
      refine g_iconst C (pc := 32) (v := 1) dX3_falsely_32 (by decide) ?_
      exact g_zretD C (b2i_nb _) R dX3_falsely_33 (Nat.le_refl _) (Nat.le_refl _) (by unfold m_falsely; first | (rw [if_pos (by  grind)] <;> first | rfl | (simp [mN_sI_ne, sI_2, p2i, b2i, *]; done) | grind) | (rw [if_neg (by  grind)] <;> first | rfl | (simp [mN_sI_ne, sI_2, p2i, b2i, *]; done) | grind)) (congrArg (fun z => wd K z h) (by unfold m_falsely; first | (rw [if_pos (by  grind)] <;> first | rfl | (simp [mN_sI_ne, sI_2, p2i, b2i, *]; done) | grind) | (rw [if_neg (by  grind)] <;> first | rfl | (simp [mN_sI_ne, sI_2, p2i, b2i, *]; done) | grind))) rfl
    · skip
      have c_20 : ((nb ((S.2.1 30) ((a).toNatClampNeg))) : Int32) = z := c_20
      refine g_iconst C (pc := 23) (v := 0) dX3_falsely_23 (by decide) ?_
      exact g_zretD C (b2i_nb _) R dX3_falsely_24 (Nat.le_refl _) (Nat.le_refl _) (by unfold m_falsely; first | (rw [if_pos (by  grind)] <;> first | rfl | (simp [mN_sI_ne, sI_2, p2i, b2i, *]; done) | grind) | (rw [if_neg (by  grind)] <;> first | rfl | (simp [mN_sI_ne, sI_2, p2i, b2i, *]; done) | grind)) (congrArg (fun z => wd K z h) (by unfold m_falsely; first | (rw [if_pos (by  grind)] <;> first | rfl | (simp [mN_sI_ne, sI_2, p2i, b2i, *]; done) | grind) | (rw [if_neg (by  grind)] <;> first | rfl | (simp [mN_sI_ne, sI_2, p2i, b2i, *]; done) | grind))) rfl
theorem ds_X3_falsely : yX3_falsely.cls ≠ "java/lang/invoke/MethodHandle" ∧ yX3_falsely.cls ≠ "java/lang/invoke/VarHandle" ∧ (parseMethodDescriptor yX3_falsely.desc).map (fun d => d.parameters.length) = some 2 := by decide +kernel
set_option maxHeartbeats 4000000 in
set_option maxRecDepth 100000 in
theorem c_X3_several (l : Launch) (D : gD) (B : Nat × Nat) (K : KS) (S : MS) (h : gHp) (n : Nat) (p : Int32) (s : Int32) (t : Int32) (y : Int64) (hS : MOK S) : Con l yX3_several (ws_ yX3_several cX3_several 12 (some .int)) ({ frames := 3, cells := 0, slots := 0, locals := 67 }) D B [.ref 20, .int p, .int s, .int t, .long y] (wd K S h) n (gdt (some (.int ((m_several S p s t y).2))) (wd K ((m_several S p s t y).1) h) n) 0 0 := by
  have b12 := hS.c12.2
  have b13 := hS.c13.2
  have b14 := hS.c14.2
  have b16 := hS.c16.2
  have b29 := hS.c29.2
  have b30 := hS.c30.2
  have b31 := hS.c31.2
  have b48 := hS.c48.2
  have b49 := hS.c49.2
  have b50 := hS.c50.2
  have b51 := hS.c51.2
  have b77 := hS.c77.2
  have b78 := hS.c78.2
  have b79 := hS.c79.2
  have b82 := hS.c82.2
  refine Con.begin [some (.ref 20), some (.int p), some (.int s), some (.int t), some (.long y), none, none, none, none, none, none, none] rfl rfl (Nat.le_of_ble_eq_true rfl) rfl rfl (fun X C R => ?_)
  refine g_aload_n C (pc := 0) dX3_several_0 rfl rfl ?_
  refine g_iconst C (pc := 1) (v := 0) dX3_several_1 (by decide) ?_
  refine m_puti C 0 (pc := 2) dX3_several_2 rfl q1193 rfl rfl rfl ?_
  refine g_aload_n C (pc := 5) dX3_several_5 rfl rfl ?_
  refine m_geti C 77 (pc := 6) (v := nI (mN S 77)) dX3_several_6 rfl q1270 rfl hS.c77.1 ?_
  refine g_bipush C (pc := 9) (v := 80) dX3_several_9 (by decide) ?_
  refine g_icmp_eq C (pc := 11) (tgt := 90) dX3_several_11 (by decide) (fun c_11 => ?_) (fun c_11 => ?_)
  · skip
    have c_11 : (mN S 77) = 80 := (nI_eq (a := (mN S 77)) (b := 80) (by omega) (by omega)).mp c_11
    refine g_iconst C (pc := 90) (v := (-1)) dX3_several_90 (by decide) ?_
    exact g_iretD C R dX3_several_91 (Nat.le_refl _) (Nat.le_refl _) (by unfold m_several; first | (rw [if_neg hC]; first | (rw [if_neg hno]; rfl) | (rw [if_pos ⟨hcn, by rw [hff]; exact fun z => by cases z⟩, hff]; rfl)) | (rw [if_pos (by grind)])) (congrArg (fun z => wd K z h) (by unfold m_several; first | (rw [if_neg hC]; first | (rw [if_neg hno, e_S_317]) | (rw [if_pos ⟨hcn, by rw [hff]; exact fun z => by cases z⟩])) | (rw [if_pos (by grind)]))) rfl
  · skip
    have c_11 : ¬ (mN S 77) = 80 := fun q => c_11 ((nI_eq (a := (mN S 77)) (b := 80) (by omega) (by omega)).mpr q)
    refine g_aload_n C (pc := 14) dX3_several_14 rfl rfl ?_
    refine g_iload_n C (pc := 15) dX3_several_15 rfl ?_
    refine g_callVD C (pc := 16) [.int p] [] dX3_several_16 (c_X3_isParting l D B K (sI S 0 0) h n p ) (lw_V q1559 q1561 qs44 q87 q1562) (wd_20 _ _ _) rfl rfl ds_X3_isParting ⟨rfl, rfl⟩ ⟨Nat.le_of_ble_eq_true rfl, Nat.le_of_ble_eq_true rfl⟩ rfl rfl ⟨Nat.le_of_ble_eq_true rfl, Nat.le_of_ble_eq_true rfl⟩ (Nat.le_of_ble_eq_true rfl) rfl ?_
    refine g_if_eq C (pc := 19) (tgt := 90) dX3_several_19 (by decide) (fun c_19 => ?_) (fun c_19 => ?_)
    · skip
      have c_19 : ¬ (isParting S p) := p2i_0.mp c_19
      refine g_iconst C (pc := 90) (v := (-1)) dX3_several_90 (by decide) ?_
      exact g_iretD C R dX3_several_91 (Nat.le_refl _) (Nat.le_refl _) (by unfold m_several; first | (rw [if_neg hC]; first | (rw [if_neg hno]; rfl) | (rw [if_pos ⟨hcn, by rw [hff]; exact fun z => by cases z⟩, hff]; rfl)) | (rw [if_pos (by grind)])) (congrArg (fun z => wd K z h) (by unfold m_several; first | (rw [if_neg hC]; first | (rw [if_neg hno, e_S_317]) | (rw [if_pos ⟨hcn, by rw [hff]; exact fun z => by cases z⟩])) | (rw [if_pos (by grind)]))) rfl
    · skip
      have c_19 : (isParting S p) := p2i_n0.mp c_19
      refine g_aload_n C (pc := 22) dX3_several_22 rfl rfl ?_
      refine g_iload_n C (pc := 23) dX3_several_23 rfl ?_
      refine g_aload_n C (pc := 24) dX3_several_24 rfl rfl ?_
      refine m_geti C 1 (pc := 25) (v := S.1 1) dX3_several_25 rfl q1194 rfl rfl ?_
      refine g_callVD C (pc := 28) [.int p, .int (S.1 1)] [] dX3_several_28 (c_X3_isForce l D B K (sI S 0 0) h n p (S.1 1) (isParting.inr hS c_19)) (lw_V q1623 q1625 qs51 q87 q1626) (wd_20 _ _ _) rfl rfl ds_X3_isForce ⟨rfl, rfl⟩ ⟨Nat.le_of_ble_eq_true rfl, Nat.le_of_ble_eq_true rfl⟩ rfl rfl ⟨Nat.le_of_ble_eq_true rfl, Nat.le_of_ble_eq_true rfl⟩ (Nat.le_of_ble_eq_true rfl) rfl ?_
      refine g_if_eq C (pc := 31) (tgt := 90) dX3_several_31 (by decide) (fun c_31 => ?_) (fun c_31 => ?_)
      · skip
        have c_31 : ¬ (isForce S.2.1 p.toNatClampNeg (S.1 1)) := p2i_0.mp c_31
        refine g_iconst C (pc := 90) (v := (-1)) dX3_several_90 (by decide) ?_
        exact g_iretD C R dX3_several_91 (Nat.le_refl _) (Nat.le_refl _) (by unfold m_several; first | (rw [if_neg hC]; first | (rw [if_neg hno]; rfl) | (rw [if_pos ⟨hcn, by rw [hff]; exact fun z => by cases z⟩, hff]; rfl)) | (rw [if_pos (by grind)])) (congrArg (fun z => wd K z h) (by unfold m_several; first | (rw [if_neg hC]; first | (rw [if_neg hno, e_S_317]) | (rw [if_pos ⟨hcn, by rw [hff]; exact fun z => by cases z⟩])) | (rw [if_pos (by grind)]))) rfl
      · skip
        have c_31 : (isForce S.2.1 p.toNatClampNeg (S.1 1)) := p2i_n0.mp c_31
        refine g_aload_n C (pc := 34) dX3_several_34 rfl rfl ?_
        refine g_iload_n C (pc := 35) dX3_several_35 rfl ?_
        refine g_iconst C (pc := 36) (v := 1) dX3_several_36 (by decide) ?_
        refine g_callVD C (pc := 37) [.int s, .int 1] [] dX3_several_37 (c_X3_areHolders l D B K (sI S 0 0) h n s 1 ) (lw_V q1538 q1540 qs42 q87 q1541) (wd_20 _ _ _) rfl rfl ds_X3_areHolders ⟨rfl, rfl⟩ ⟨Nat.le_of_ble_eq_true rfl, Nat.le_of_ble_eq_true rfl⟩ rfl rfl ⟨Nat.le_of_ble_eq_true rfl, Nat.le_of_ble_eq_true rfl⟩ (Nat.le_of_ble_eq_true rfl) rfl ?_
        refine g_if_eq C (pc := 40) (tgt := 90) dX3_several_40 (by decide) (fun c_40 => ?_) (fun c_40 => ?_)
        · skip
          have c_40 : ¬ (areHolders S s 1) := p2i_0.mp c_40
          refine g_iconst C (pc := 90) (v := (-1)) dX3_several_90 (by decide) ?_
          exact g_iretD C R dX3_several_91 (Nat.le_refl _) (Nat.le_refl _) (by unfold m_several; first | (rw [if_neg hC]; first | (rw [if_neg hno]; rfl) | (rw [if_pos ⟨hcn, by rw [hff]; exact fun z => by cases z⟩, hff]; rfl)) | (rw [if_pos (by grind)])) (congrArg (fun z => wd K z h) (by unfold m_several; first | (rw [if_neg hC]; first | (rw [if_neg hno, e_S_317]) | (rw [if_pos ⟨hcn, by rw [hff]; exact fun z => by cases z⟩])) | (rw [if_pos (by grind)]))) rfl
        · skip
          have c_40 : (areHolders S s 1) := p2i_n0.mp c_40
          refine g_iload_n C (pc := 43) dX3_several_43 rfl ?_
          refine g_aload_n C (pc := 44) dX3_several_44 rfl rfl ?_
          refine m_geta C 22 37 (pc := 45) dX3_several_45 (by decide) (fun _ => rfl) q1215 rfl ?_
          refine g_iload_n C (pc := 48) dX3_several_48 rfl ?_
          refine m_iald C (pc := 49) (v := (S.2.1 37) ((p).toNatClampNeg)) dX3_several_49 (by decide) rfl (isParting.inr hS c_19) rfl ?_
          refine g_iconst C (pc := 50) (v := (-1)) dX3_several_50 (by decide) ?_
          refine g_ixor C (pc := 51) dX3_several_51 ?_
          refine g_iand C (pc := 52) dX3_several_52 ?_
          refine g_if_ne C (pc := 53) (tgt := 90) dX3_several_53 (by decide) (fun c_53 => ?_) (fun c_53 => ?_)
          · skip
            refine g_iconst C (pc := 90) (v := (-1)) dX3_several_90 (by decide) ?_
            exact g_iretD C R dX3_several_91 (Nat.le_refl _) (Nat.le_refl _) (by unfold m_several; first | (rw [if_neg hC]; first | (rw [if_neg hno]; rfl) | (rw [if_pos ⟨hcn, by rw [hff]; exact fun z => by cases z⟩, hff]; rfl)) | (rw [if_pos (by grind)])) (congrArg (fun z => wd K z h) (by unfold m_several; first | (rw [if_neg hC]; first | (rw [if_neg hno, e_S_317]) | (rw [if_pos ⟨hcn, by rw [hff]; exact fun z => by cases z⟩])) | (rw [if_pos (by grind)]))) rfl
          · skip
            refine g_iload_n C (pc := 56) dX3_several_56 rfl ?_
            refine g_callSD C (pc := 57) [.int s] [] dX3_several_57 (c_J5_bitCount l D B (wd K (sI S 0 0) h) n s ) (lw_S q1542 q545 q98 q546) ds_J5_bitCount ⟨rfl, rfl⟩ ⟨Nat.le_of_ble_eq_true rfl, Nat.le_of_ble_eq_true rfl⟩ rfl rfl ⟨Nat.le_of_ble_eq_true rfl, Nat.le_of_ble_eq_true rfl⟩ (Nat.le_of_ble_eq_true rfl) rfl ?_
            refine g_aload_n C (pc := 60) dX3_several_60 rfl rfl ?_
            refine m_geta C 23 38 (pc := 61) dX3_several_61 (by decide) (fun _ => rfl) q1216 rfl ?_
            refine g_iload_n C (pc := 64) dX3_several_64 rfl ?_
            refine m_iald C (pc := 65) (v := (S.2.1 38) ((p).toNatClampNeg)) dX3_several_65 (by decide) rfl (isParting.inr hS c_19) rfl ?_
            refine g_icmp_lt C (pc := 66) (tgt := 90) dX3_several_66 (by decide) (fun c_66 => ?_) (fun c_66 => ?_)
            · skip
              have c_66 : ((bitc s) : Int32) < ((S.2.1 38) ((p).toNatClampNeg)) := c_66
              refine g_iconst C (pc := 90) (v := (-1)) dX3_several_90 (by decide) ?_
              exact g_iretD C R dX3_several_91 (Nat.le_refl _) (Nat.le_refl _) (by unfold m_several; first | (rw [if_neg hC]; first | (rw [if_neg hno]; rfl) | (rw [if_pos ⟨hcn, by rw [hff]; exact fun z => by cases z⟩, hff]; rfl)) | (rw [if_pos (by grind)])) (congrArg (fun z => wd K z h) (by unfold m_several; first | (rw [if_neg hC]; first | (rw [if_neg hno, e_S_317]) | (rw [if_pos ⟨hcn, by rw [hff]; exact fun z => by cases z⟩])) | (rw [if_pos (by grind)]))) rfl
            · skip
              have c_66 : ¬ ((bitc s) : Int32) < ((S.2.1 38) ((p).toNatClampNeg)) := c_66
              refine g_aload_n C (pc := 69) dX3_several_69 rfl rfl ?_
              refine g_iload_n C (pc := 70) dX3_several_70 rfl ?_
              refine g_callVD C (pc := 71) [.int t] [] dX3_several_71 (c_X3_isThing l D B K (sI S 0 0) h n t ) (lw_V q1705 q1707 qs66 q87 q1708) (wd_20 _ _ _) rfl rfl ds_X3_isThing ⟨rfl, rfl⟩ ⟨Nat.le_of_ble_eq_true rfl, Nat.le_of_ble_eq_true rfl⟩ rfl rfl ⟨Nat.le_of_ble_eq_true rfl, Nat.le_of_ble_eq_true rfl⟩ (Nat.le_of_ble_eq_true rfl) rfl ?_
              refine g_if_eq C (pc := 74) (tgt := 90) dX3_several_74 (by decide) (fun c_74 => ?_) (fun c_74 => ?_)
              · skip
                have c_74 : ¬ (isThing S t) := p2i_0.mp c_74
                refine g_iconst C (pc := 90) (v := (-1)) dX3_several_90 (by decide) ?_
                exact g_iretD C R dX3_several_91 (Nat.le_refl _) (Nat.le_refl _) (by unfold m_several; first | (rw [if_neg hC]; first | (rw [if_neg hno]; rfl) | (rw [if_pos ⟨hcn, by rw [hff]; exact fun z => by cases z⟩, hff]; rfl)) | (rw [if_pos (by grind)])) (congrArg (fun z => wd K z h) (by unfold m_several; first | (rw [if_neg hC]; first | (rw [if_neg hno, e_S_317]) | (rw [if_pos ⟨hcn, by rw [hff]; exact fun z => by cases z⟩])) | (rw [if_pos (by grind)]))) rfl
              · skip
                have c_74 : (isThing S t) := p2i_n0.mp c_74
                refine g_aload_n C (pc := 77) dX3_several_77 rfl rfl ?_
                refine g_aload_n C (pc := 78) dX3_several_78 rfl rfl ?_
                refine m_geta C 21 36 (pc := 79) dX3_several_79 (by decide) (fun _ => rfl) q1214 rfl ?_
                refine g_iload_n C (pc := 82) dX3_several_82 rfl ?_
                refine m_iald C (pc := 83) (v := (S.2.1 36) ((p).toNatClampNeg)) dX3_several_83 (by decide) rfl (isParting.inr hS c_19) rfl ?_
                refine g_callVD C (pc := 84) [.int ((S.2.1 36) ((p).toNatClampNeg))] [] dX3_several_84 (c_X3_maySign l D B K (sI S 0 0) h n ((S.2.1 36) ((p).toNatClampNeg)) (hS.setI 0 rfl) (need_ok hS c_19).2.2.2) (lw_V q1752 q1754 qs71 q87 q1755) (wd_20 _ _ _) rfl rfl ds_X3_maySign ⟨rfl, rfl⟩ ⟨Nat.le_of_ble_eq_true rfl, Nat.le_of_ble_eq_true rfl⟩ rfl rfl ⟨Nat.le_of_ble_eq_true rfl, Nat.le_of_ble_eq_true rfl⟩ (Nat.le_of_ble_eq_true rfl) rfl ?_
                refine g_if_ne C (pc := 87) (tgt := 92) dX3_several_87 (by decide) (fun c_87 => ?_) (fun c_87 => ?_)
                · skip
                  have c_87 : (maySign S ((S.2.1 36) ((p).toNatClampNeg))) := p2i_n0.mp c_87
                  refine g_lload C (pc := 92) dX3_several_92 rfl ?_
                  refine g_lstore C (pc := 94) (L' := [some (.ref 20), some (.int p), some (.int s), some (.int t), some (.long y), none, some (.long y), none, none, none, none, none]) dX3_several_94 (by decide) rfl rfl ?_
                  refine g_iconst C (pc := 96) (v := 1) dX3_several_96 (by decide) ?_
                  refine g_istore C (pc := 97) (L' := [some (.ref 20), some (.int p), some (.int s), some (.int t), some (.long y), none, some (.long y), none, some (.int 1), none, none, none]) dX3_several_97 (by decide) rfl rfl ?_
                  refine g_iconst C (pc := 99) (v := 0) dX3_several_99 (by decide) ?_
                  refine g_istore C (pc := 100) (L' := [some (.ref 20), some (.int p), some (.int s), some (.int t), some (.long y), none, some (.long y), none, some (.int 1), some (.int 0), none, none]) dX3_several_100 (by decide) rfl rfl ?_
                  refine g_iconst C (pc := 102) (v := 0) dX3_several_102 (by decide) ?_
                  refine g_istore C (pc := 103) (L' := [some (.ref 20), some (.int p), some (.int s), some (.int t), some (.long y), none, some (.long y), none, some (.int 1), some (.int 0), some (.int 0), none]) dX3_several_103 (by decide) rfl rfl ?_
                  have hC : ¬ sevC S p s t := by grind
                  have loop_105 : ∀ (d105 : Nat) (j : Nat) (z : Int64) (r : Int32), (j ≤ (mN S 12)) → (z = (sevR s y j).1) → (r = (sevR s y j).2) → (mN S 12) - j < d105 → G X D B (wd K (sI S 0 0) h) n 0 0 [some (.ref 20), some (.int p), some (.int s), some (.int t), some (.long y), none, some (.long z), none, some (.int r), some (.int 0), some (.int (nI j)), none] 105 [] := by
                    intro d105
                    induction d105 with
                    | zero =>
                      intro j z r hj hz hr hm105
                      exact absurd hm105 (Nat.not_lt_zero _)
                    | succ d105 ih105 =>
                      intro j z r hj hz hr hm105
                      refine g_iload C (pc := 105) dX3_several_105 rfl ?_
                      refine g_aload_n C (pc := 107) dX3_several_107 rfl rfl ?_
                      refine m_geti C 12 (pc := 108) (v := nI (mN S 12)) dX3_several_108 rfl q1205 rfl hS.c12.1 ?_
                      refine g_icmp_ge C (pc := 111) (tgt := 161) dX3_several_111 (by decide) (fun c_111 => ?_) (fun c_111 => ?_)
                      · skip
                        have c_111 : (mN S 12) ≤ j := Nat.not_lt.mp fun q => c_111 ((nI_ltI (a := j) (b := (mN S 12)) (by omega) (by omega)).mpr q)
                        have hje : j = (mN S 12) := by omega
                        subst hje
                        subst hr
                        refine g_iload C (pc := 161) dX3_several_161 rfl ?_
                        refine g_aload_n C (pc := 163) dX3_several_163 rfl rfl ?_
                        refine m_geta C 38 50 (pc := 164) dX3_several_164 (by decide) (fun _ => rfl) q1231 rfl ?_
                        refine g_iload_n C (pc := 167) dX3_several_167 rfl ?_
                        refine m_iald C (pc := 168) (v := (S.2.1 50) ((t).toNatClampNeg)) dX3_several_168 (by decide) rfl (isThing.inr hS c_74) rfl ?_
                        refine g_callSD C (pc := 169) [.int ((sevR s y (mN S 12)).2), .int ((S.2.1 50) ((t).toNatClampNeg))] [] dX3_several_169 (c_X3_challenge l D B (wd K (sI S 0 0) h) n ((sevR s y (mN S 12)).2) ((S.2.1 50) ((t).toNatClampNeg)) ) (lw_S q1764 q1765 q87 q1766) ds_X3_challenge ⟨rfl, rfl⟩ ⟨Nat.le_of_ble_eq_true rfl, Nat.le_of_ble_eq_true rfl⟩ rfl rfl ⟨Nat.le_of_ble_eq_true rfl, Nat.le_of_ble_eq_true rfl⟩ (Nat.le_of_ble_eq_true rfl) rfl ?_
                        refine g_istore C (pc := 172) (L' := [some (.ref 20), some (.int p), some (.int s), some (.int t), some (.long y), none, some (.long z), none, some (.int ((sevR s y (mN S 12)).2)), some (.int 0), some (.int (chal ((sevR s y (mN S 12)).2) ((S.2.1 50) ((t).toNatClampNeg)))), none]) dX3_several_172 (by decide) rfl rfl ?_
                        have hH : sevH S s t y = chal (sevR s y (mN S 12)).2 ((S.2.1 50) t.toNatClampNeg) := rfl
                        refine g_iconst C (pc := 174) (v := 0) dX3_several_174 (by decide) ?_
                        refine g_istore C (pc := 175) (L' := [some (.ref 20), some (.int p), some (.int s), some (.int t), some (.long y), none, some (.long z), none, some (.int ((sevR s y (mN S 12)).2)), some (.int 0), some (.int (sevH S s t y)), some (.int 0)]) dX3_several_175 (by decide) rfl rfl ?_
                        have loop_177 : ∀ (d177 : Nat) (j : Nat), (j ≤ (mN S 12)) → (firF S.2.1 s j = none) → (mN S 12) - j < d177 → G X D B (wd K (sI S 0 0) h) n 0 0 [some (.ref 20), some (.int p), some (.int s), some (.int t), some (.long y), none, none, none, some (.int ((sevR s y (mN S 12)).2)), some (.int 0), some (.int (sevH S s t y)), some (.int (nI j))] 177 [] := by
                          intro d177
                          induction d177 with
                          | zero =>
                            intro j hj hf hm177
                            exact absurd hm177 (Nat.not_lt_zero _)
                          | succ d177 ih177 =>
                            intro j hj hf hm177
                            refine g_iload C (pc := 177) dX3_several_177 rfl ?_
                            refine g_aload_n C (pc := 179) dX3_several_179 rfl rfl ?_
                            refine m_geti C 12 (pc := 180) (v := nI (mN S 12)) dX3_several_180 rfl q1205 rfl hS.c12.1 ?_
                            refine g_icmp_ge C (pc := 183) (tgt := 223) dX3_several_183 (by decide) (fun c_183 => ?_) (fun c_183 => ?_)
                            · skip
                              have c_183 : (mN S 12) ≤ j := Nat.not_lt.mp fun q => c_183 ((nI_ltI (a := j) (b := (mN S 12)) (by omega) (by omega)).mpr q)
                              have hje : j = (mN S 12) := by omega
                              rw [hje] at hf
                              have hno : ¬ (¬ sevH S s t y = 0 ∧ ¬ firF S.2.1 s (mN S 12) = none) := fun z => z.2 hf
                              refine g_lload C (pc := 223) dX3_several_223 rfl ?_
                              refine g_lstore C (pc := 225) (L' := [some (.ref 20), some (.int p), some (.int s), some (.int t), some (.long y), none, some (.long y), none, some (.int ((sevR s y (mN S 12)).2)), some (.int 0), some (.int (sevH S s t y)), some (.int (nI j))]) dX3_several_225 (by decide) rfl rfl ?_
                              refine g_iconst C (pc := 227) (v := 0) dX3_several_227 (by decide) ?_
                              refine g_istore C (pc := 228) (L' := [some (.ref 20), some (.int p), some (.int s), some (.int t), some (.long y), none, some (.long y), none, some (.int ((sevR s y (mN S 12)).2)), some (.int 0), some (.int (sevH S s t y)), some (.int 0)]) dX3_several_228 (by decide) rfl rfl ?_
                              have loop_230 : ∀ (d230 : Nat) (j : Nat) (z : Int64) (v : Int32), (j ≤ (mN S 12)) → (z = (sevS (pieceM S p) (sevH S s t y) s y j).1) → (v = (sevS (pieceM S p) (sevH S s t y) s y j).2) → (mN S 12) - j < d230 → G X D B (wd K (sI S 0 0) h) n 0 0 [some (.ref 20), some (.int p), some (.int s), some (.int t), some (.long y), none, some (.long z), none, some (.int ((sevR s y (mN S 12)).2)), some (.int v), some (.int (sevH S s t y)), some (.int (nI j))] 230 [] := by
                                intro d230
                                induction d230 with
                                | zero =>
                                  intro j z v hj hz hv hm230
                                  exact absurd hm230 (Nat.not_lt_zero _)
                                | succ d230 ih230 =>
                                  intro j z v hj hz hv hm230
                                  refine g_iload C (pc := 230) dX3_several_230 rfl ?_
                                  refine g_aload_n C (pc := 232) dX3_several_232 rfl rfl ?_
                                  refine m_geti C 12 (pc := 233) (v := nI (mN S 12)) dX3_several_233 rfl q1205 rfl hS.c12.1 ?_
                                  refine g_icmp_ge C (pc := 236) (tgt := 305) dX3_several_236 (by decide) (fun c_236 => ?_) (fun c_236 => ?_)
                                  · skip
                                    have c_236 : (mN S 12) ≤ j := Nat.not_lt.mp fun q => c_236 ((nI_ltI (a := j) (b := (mN S 12)) (by omega) (by omega)).mpr q)
                                    have hje : j = (mN S 12) := by omega
                                    subst hje
                                    subst hv
                                    refine g_aload_n C (pc := 305) dX3_several_305 rfl rfl ?_
                                    refine g_iload C (pc := 306) dX3_several_306 rfl ?_
                                    refine g_iload C (pc := 308) dX3_several_308 rfl ?_
                                    refine g_aload_n C (pc := 310) dX3_several_310 rfl rfl ?_
                                    refine m_geta C 21 36 (pc := 311) dX3_several_311 (by decide) (fun _ => rfl) q1214 rfl ?_
                                    refine g_iload_n C (pc := 314) dX3_several_314 rfl ?_
                                    refine m_iald C (pc := 315) (v := (S.2.1 36) ((p).toNatClampNeg)) dX3_several_315 (by decide) rfl (isParting.inr hS c_19) rfl ?_
                                    refine g_iload_n C (pc := 316) dX3_several_316 rfl ?_
                                    refine g_callVD C (pc := 317) [.int ((sevR s y (mN S 12)).2), .int ((sevS (pieceM S p) (sevH S s t y) s y (mN S 12)).2), .int ((S.2.1 36) ((p).toNatClampNeg)), .int t] [] dX3_several_317 (c_X3_keeps l D B K (sI S 0 0) h n ((sevR s y (mN S 12)).2) ((sevS (pieceM S p) (sevH S s t y) s y (mN S 12)).2) ((S.2.1 36) ((p).toNatClampNeg)) t (hS.setI 0 rfl) (by show (mN S 77) < 80; omega)) (lw_V q1767 q1769 qs74 q87 q1770) (wd_20 _ _ _) rfl rfl ds_X3_keeps ⟨rfl, rfl⟩ ⟨Nat.le_of_ble_eq_true rfl, Nat.le_of_ble_eq_true rfl⟩ rfl rfl ⟨Nat.le_of_ble_eq_true rfl, Nat.le_of_ble_eq_true rfl⟩ (Nat.le_of_ble_eq_true rfl) rfl ?_
                                    refine G.nmS (fun S_317 e_S_317 => ?_)
                                    exact g_iretD C R dX3_several_320 (Nat.le_refl _) (Nat.le_refl _) (by unfold m_several; first | (rw [if_neg hC]; first | (rw [if_neg hno]; rfl) | (rw [if_pos ⟨hcn, by rw [hff]; exact fun z => by cases z⟩, hff]; rfl)) | (rw [if_pos (by grind)])) (congrArg (fun z => wd K z h) (by unfold m_several; first | (rw [if_neg hC]; first | (rw [if_neg hno, e_S_317]) | (rw [if_pos ⟨hcn, by rw [hff]; exact fun z => by cases z⟩])) | (rw [if_pos (by grind)]))) rfl
                                  · skip
                                    have c_236 : j < (mN S 12) := (nI_ltI (a := j) (b := (mN S 12)) (by omega) (by omega)).mp c_236
                                    refine g_iload_n C (pc := 239) dX3_several_239 rfl ?_
                                    refine g_iload C (pc := 240) dX3_several_240 rfl ?_
                                    refine g_ishr C (pc := 242) dX3_several_242 ?_
                                    refine g_iconst C (pc := 243) (v := 1) dX3_several_243 (by decide) ?_
                                    refine g_iand C (pc := 244) dX3_several_244 ?_
                                    refine g_if_ne C (pc := 245) (tgt := 251) dX3_several_245 (by decide) (fun c_245 => ?_) (fun c_245 => ?_)
                                    · skip
                                      refine g_lload C (pc := 251) dX3_several_251 rfl ?_
                                      refine g_callSD C (pc := 253) [.long z] [] dX3_several_253 (c_X3_next l D B (wd K (sI S 0 0) h) n z ) (lw_S q1547 q1548 q87 q1549) ds_X3_next ⟨rfl, rfl⟩ ⟨Nat.le_of_ble_eq_true rfl, Nat.le_of_ble_eq_true rfl⟩ rfl rfl ⟨Nat.le_of_ble_eq_true rfl, Nat.le_of_ble_eq_true rfl⟩ (Nat.le_of_ble_eq_true rfl) rfl ?_
                                      refine G.topl (fun x_256 e_x_256 => ?_)
                                      have e_x_256 : x_256 = lcg z := e_x_256
                                      refine g_lstore C (pc := 256) (L' := [some (.ref 20), some (.int p), some (.int s), some (.int t), some (.long y), none, some (.long x_256), none, some (.int ((sevR s y (mN S 12)).2)), some (.int v), some (.int (sevH S s t y)), some (.int (nI j))]) dX3_several_256 (by decide) rfl rfl ?_
                                      refine g_iload C (pc := 258) dX3_several_258 rfl ?_
                                      refine g_lload C (pc := 260) dX3_several_260 rfl ?_
                                      refine g_sipush C (pc := 262) (v := 1018) dX3_several_262 (by decide) ?_
                                      refine g_callSD C (pc := 265) [.long x_256, .int 1018] [.int v] dX3_several_265 (c_X3_drawn l D B (wd K (sI S 0 0) h) n x_256 1018 (by decide)) (lw_S q1552 q1553 q87 q1554) ds_X3_drawn ⟨rfl, rfl⟩ ⟨Nat.le_of_ble_eq_true rfl, Nat.le_of_ble_eq_true rfl⟩ rfl rfl ⟨Nat.le_of_ble_eq_true rfl, Nat.le_of_ble_eq_true rfl⟩ (Nat.le_of_ble_eq_true rfl) rfl ?_
                                      refine g_iadd C (pc := 268) dX3_several_268 ?_
                                      refine g_iconst C (pc := 269) (v := 1) dX3_several_269 (by decide) ?_
                                      refine g_iadd C (pc := 270) dX3_several_270 ?_
                                      refine g_iload C (pc := 271) dX3_several_271 rfl ?_
                                      refine g_iload C (pc := 273) dX3_several_273 rfl ?_
                                      refine g_iload_n C (pc := 275) dX3_several_275 rfl ?_
                                      refine g_callSD C (pc := 276) [.int (nI j), .int s] [.int (sevH S s t y), .int ((v + (drawn x_256 1018)) + 1)] dX3_several_276 (c_X3_weight l D B (wd K (sI S 0 0) h) n (nI j) s ) (lw_S q1591 q1592 q87 q1593) ds_X3_weight ⟨rfl, rfl⟩ ⟨Nat.le_of_ble_eq_true rfl, Nat.le_of_ble_eq_true rfl⟩ rfl rfl ⟨Nat.le_of_ble_eq_true rfl, Nat.le_of_ble_eq_true rfl⟩ (Nat.le_of_ble_eq_true rfl) rfl ?_
                                      refine g_imul C (pc := 279) dX3_several_279 ?_
                                      refine g_sipush C (pc := 280) (v := 1019) dX3_several_280 (by decide) ?_
                                      refine g_irem C (pc := 283) dX3_several_283 (by decide) ?_
                                      refine g_aload_n C (pc := 284) dX3_several_284 rfl rfl ?_
                                      refine g_iload_n C (pc := 285) dX3_several_285 rfl ?_
                                      refine g_iload C (pc := 286) dX3_several_286 rfl ?_
                                      refine g_callVD C (pc := 288) [.int p, .int (nI j)] [.int (jrem ((sevH S s t y) * (weight (nI j) s)) 1019), .int ((v + (drawn x_256 1018)) + 1)] dX3_several_288 (c_X3_pieceOf l D B K (sI S 0 0) h n p (nI j) (hS.setI 0 rfl) c_19) (lw_V q1571 q1573 qs46 q87 q1574) (wd_20 _ _ _) rfl rfl ds_X3_pieceOf ⟨rfl, rfl⟩ ⟨Nat.le_of_ble_eq_true rfl, Nat.le_of_ble_eq_true rfl⟩ rfl rfl ⟨Nat.le_of_ble_eq_true rfl, Nat.le_of_ble_eq_true rfl⟩ (Nat.le_of_ble_eq_true rfl) rfl ?_
                                      refine g_imul C (pc := 291) dX3_several_291 ?_
                                      refine g_iadd C (pc := 292) dX3_several_292 ?_
                                      refine g_sipush C (pc := 293) (v := 1019) dX3_several_293 (by decide) ?_
                                      refine g_irem C (pc := 296) dX3_several_296 (by decide) ?_
                                      refine G.topi (fun x_297 e_x_297 => ?_)
                                      have e_x_297 : x_297 = jrem (((v + (drawn x_256 1018)) + 1) + ((jrem ((sevH S s t y) * (weight (nI j) s)) 1019) * (pieceM S p (nI j)))) 1019 := e_x_297
                                      refine g_istore C (pc := 297) (L' := [some (.ref 20), some (.int p), some (.int s), some (.int t), some (.long y), none, some (.long x_256), none, some (.int ((sevR s y (mN S 12)).2)), some (.int x_297), some (.int (sevH S s t y)), some (.int (nI j))]) dX3_several_297 (by decide) rfl rfl ?_
                                      refine g_iinc C (pc := 299) (v := nI (j + 1)) (L' := [some (.ref 20), some (.int p), some (.int s), some (.int t), some (.long y), none, some (.long x_256), none, some (.int ((sevR s y (mN S 12)).2)), some (.int x_297), some (.int (sevH S s t y)), some (.int (nI (j + 1)))]) dX3_several_299 rfl (nI_inc _) (by decide) rfl rfl ?_
                                      refine g_goto C (pc := 302) (tgt := 230) dX3_several_302 (by decide) ?_
                                      refine G.mask [true, true, true, true, true, false, true, false, true, true, true, true] rfl ?_
                                      exact ih230 (j + 1) x_256 x_297 (by omega) (by simp only [sevS]; first | (rw [if_pos c_245]; exact hz) | (rw [if_neg c_245, e_x_256, hz])) (by simp only [sevS]; first | (rw [if_pos c_245]; exact hv) | (rw [if_neg c_245, e_x_297, e_x_256, hz, hv])) (by omega)
                                    · skip
                                      refine g_goto C (pc := 248) (tgt := 299) dX3_several_248 (by decide) ?_
                                      refine g_iinc C (pc := 299) (v := nI (j + 1)) (L' := [some (.ref 20), some (.int p), some (.int s), some (.int t), some (.long y), none, some (.long z), none, some (.int ((sevR s y (mN S 12)).2)), some (.int v), some (.int (sevH S s t y)), some (.int (nI (j + 1)))]) dX3_several_299 rfl (nI_inc _) (by decide) rfl rfl ?_
                                      refine g_goto C (pc := 302) (tgt := 230) dX3_several_302 (by decide) ?_
                                      refine G.mask [true, true, true, true, true, false, true, false, true, true, true, true] rfl ?_
                                      exact ih230 (j + 1) z v (by omega) (by simp only [sevS]; first | (rw [if_pos c_245]; exact hz) | (rw [if_neg c_245, e_x_256, hz])) (by simp only [sevS]; first | (rw [if_pos c_245]; exact hv) | (rw [if_neg c_245, e_x_297, e_x_256, hz, hv])) (by omega)
                              refine G.mask [true, true, true, true, true, false, true, false, true, true, true, true] rfl ?_
                              exact loop_230 _ 0 y 0 (Nat.zero_le _) (rfl) (rfl) (Nat.lt_succ_self _)
                            · skip
                              have c_183 : j < (mN S 12) := (nI_ltI (a := j) (b := (mN S 12)) (by omega) (by omega)).mp c_183
                              refine g_iload C (pc := 186) dX3_several_186 rfl ?_
                              refine g_if_eq C (pc := 188) (tgt := 223) dX3_several_188 (by decide) (fun c_188 => ?_) (fun c_188 => ?_)
                              · skip
                                have hno : ¬ (¬ sevH S s t y = 0 ∧ ¬ firF S.2.1 s (mN S 12) = none) := fun z => z.1 c_188
                                refine g_lload C (pc := 223) dX3_several_223 rfl ?_
                                refine g_lstore C (pc := 225) (L' := [some (.ref 20), some (.int p), some (.int s), some (.int t), some (.long y), none, some (.long y), none, some (.int ((sevR s y (mN S 12)).2)), some (.int 0), some (.int (sevH S s t y)), some (.int (nI j))]) dX3_several_225 (by decide) rfl rfl ?_
                                refine g_iconst C (pc := 227) (v := 0) dX3_several_227 (by decide) ?_
                                refine g_istore C (pc := 228) (L' := [some (.ref 20), some (.int p), some (.int s), some (.int t), some (.long y), none, some (.long y), none, some (.int ((sevR s y (mN S 12)).2)), some (.int 0), some (.int (sevH S s t y)), some (.int 0)]) dX3_several_228 (by decide) rfl rfl ?_
                                have loop_230 : ∀ (d230 : Nat) (j : Nat) (z : Int64) (v : Int32), (j ≤ (mN S 12)) → (z = (sevS (pieceM S p) (sevH S s t y) s y j).1) → (v = (sevS (pieceM S p) (sevH S s t y) s y j).2) → (mN S 12) - j < d230 → G X D B (wd K (sI S 0 0) h) n 0 0 [some (.ref 20), some (.int p), some (.int s), some (.int t), some (.long y), none, some (.long z), none, some (.int ((sevR s y (mN S 12)).2)), some (.int v), some (.int (sevH S s t y)), some (.int (nI j))] 230 [] := by
                                  intro d230
                                  induction d230 with
                                  | zero =>
                                    intro j z v hj hz hv hm230
                                    exact absurd hm230 (Nat.not_lt_zero _)
                                  | succ d230 ih230 =>
                                    intro j z v hj hz hv hm230
                                    refine g_iload C (pc := 230) dX3_several_230 rfl ?_
                                    refine g_aload_n C (pc := 232) dX3_several_232 rfl rfl ?_
                                    refine m_geti C 12 (pc := 233) (v := nI (mN S 12)) dX3_several_233 rfl q1205 rfl hS.c12.1 ?_
                                    refine g_icmp_ge C (pc := 236) (tgt := 305) dX3_several_236 (by decide) (fun c_236 => ?_) (fun c_236 => ?_)
                                    · skip
                                      have c_236 : (mN S 12) ≤ j := Nat.not_lt.mp fun q => c_236 ((nI_ltI (a := j) (b := (mN S 12)) (by omega) (by omega)).mpr q)
                                      have hje : j = (mN S 12) := by omega
                                      subst hje
                                      subst hv
                                      refine g_aload_n C (pc := 305) dX3_several_305 rfl rfl ?_
                                      refine g_iload C (pc := 306) dX3_several_306 rfl ?_
                                      refine g_iload C (pc := 308) dX3_several_308 rfl ?_
                                      refine g_aload_n C (pc := 310) dX3_several_310 rfl rfl ?_
                                      refine m_geta C 21 36 (pc := 311) dX3_several_311 (by decide) (fun _ => rfl) q1214 rfl ?_
                                      refine g_iload_n C (pc := 314) dX3_several_314 rfl ?_
                                      refine m_iald C (pc := 315) (v := (S.2.1 36) ((p).toNatClampNeg)) dX3_several_315 (by decide) rfl (isParting.inr hS c_19) rfl ?_
                                      refine g_iload_n C (pc := 316) dX3_several_316 rfl ?_
                                      refine g_callVD C (pc := 317) [.int ((sevR s y (mN S 12)).2), .int ((sevS (pieceM S p) (sevH S s t y) s y (mN S 12)).2), .int ((S.2.1 36) ((p).toNatClampNeg)), .int t] [] dX3_several_317 (c_X3_keeps l D B K (sI S 0 0) h n ((sevR s y (mN S 12)).2) ((sevS (pieceM S p) (sevH S s t y) s y (mN S 12)).2) ((S.2.1 36) ((p).toNatClampNeg)) t (hS.setI 0 rfl) (by show (mN S 77) < 80; omega)) (lw_V q1767 q1769 qs74 q87 q1770) (wd_20 _ _ _) rfl rfl ds_X3_keeps ⟨rfl, rfl⟩ ⟨Nat.le_of_ble_eq_true rfl, Nat.le_of_ble_eq_true rfl⟩ rfl rfl ⟨Nat.le_of_ble_eq_true rfl, Nat.le_of_ble_eq_true rfl⟩ (Nat.le_of_ble_eq_true rfl) rfl ?_
                                      refine G.nmS (fun S_317 e_S_317 => ?_)
                                      exact g_iretD C R dX3_several_320 (Nat.le_refl _) (Nat.le_refl _) (by unfold m_several; first | (rw [if_neg hC]; first | (rw [if_neg hno]; rfl) | (rw [if_pos ⟨hcn, by rw [hff]; exact fun z => by cases z⟩, hff]; rfl)) | (rw [if_pos (by grind)])) (congrArg (fun z => wd K z h) (by unfold m_several; first | (rw [if_neg hC]; first | (rw [if_neg hno, e_S_317]) | (rw [if_pos ⟨hcn, by rw [hff]; exact fun z => by cases z⟩])) | (rw [if_pos (by grind)]))) rfl
                                    · skip
                                      have c_236 : j < (mN S 12) := (nI_ltI (a := j) (b := (mN S 12)) (by omega) (by omega)).mp c_236
                                      refine g_iload_n C (pc := 239) dX3_several_239 rfl ?_
                                      refine g_iload C (pc := 240) dX3_several_240 rfl ?_
                                      refine g_ishr C (pc := 242) dX3_several_242 ?_
                                      refine g_iconst C (pc := 243) (v := 1) dX3_several_243 (by decide) ?_
                                      refine g_iand C (pc := 244) dX3_several_244 ?_
                                      refine g_if_ne C (pc := 245) (tgt := 251) dX3_several_245 (by decide) (fun c_245 => ?_) (fun c_245 => ?_)
                                      · skip
                                        refine g_lload C (pc := 251) dX3_several_251 rfl ?_
                                        refine g_callSD C (pc := 253) [.long z] [] dX3_several_253 (c_X3_next l D B (wd K (sI S 0 0) h) n z ) (lw_S q1547 q1548 q87 q1549) ds_X3_next ⟨rfl, rfl⟩ ⟨Nat.le_of_ble_eq_true rfl, Nat.le_of_ble_eq_true rfl⟩ rfl rfl ⟨Nat.le_of_ble_eq_true rfl, Nat.le_of_ble_eq_true rfl⟩ (Nat.le_of_ble_eq_true rfl) rfl ?_
                                        refine G.topl (fun x_256 e_x_256 => ?_)
                                        have e_x_256 : x_256 = lcg z := e_x_256
                                        refine g_lstore C (pc := 256) (L' := [some (.ref 20), some (.int p), some (.int s), some (.int t), some (.long y), none, some (.long x_256), none, some (.int ((sevR s y (mN S 12)).2)), some (.int v), some (.int (sevH S s t y)), some (.int (nI j))]) dX3_several_256 (by decide) rfl rfl ?_
                                        refine g_iload C (pc := 258) dX3_several_258 rfl ?_
                                        refine g_lload C (pc := 260) dX3_several_260 rfl ?_
                                        refine g_sipush C (pc := 262) (v := 1018) dX3_several_262 (by decide) ?_
                                        refine g_callSD C (pc := 265) [.long x_256, .int 1018] [.int v] dX3_several_265 (c_X3_drawn l D B (wd K (sI S 0 0) h) n x_256 1018 (by decide)) (lw_S q1552 q1553 q87 q1554) ds_X3_drawn ⟨rfl, rfl⟩ ⟨Nat.le_of_ble_eq_true rfl, Nat.le_of_ble_eq_true rfl⟩ rfl rfl ⟨Nat.le_of_ble_eq_true rfl, Nat.le_of_ble_eq_true rfl⟩ (Nat.le_of_ble_eq_true rfl) rfl ?_
                                        refine g_iadd C (pc := 268) dX3_several_268 ?_
                                        refine g_iconst C (pc := 269) (v := 1) dX3_several_269 (by decide) ?_
                                        refine g_iadd C (pc := 270) dX3_several_270 ?_
                                        refine g_iload C (pc := 271) dX3_several_271 rfl ?_
                                        refine g_iload C (pc := 273) dX3_several_273 rfl ?_
                                        refine g_iload_n C (pc := 275) dX3_several_275 rfl ?_
                                        refine g_callSD C (pc := 276) [.int (nI j), .int s] [.int (sevH S s t y), .int ((v + (drawn x_256 1018)) + 1)] dX3_several_276 (c_X3_weight l D B (wd K (sI S 0 0) h) n (nI j) s ) (lw_S q1591 q1592 q87 q1593) ds_X3_weight ⟨rfl, rfl⟩ ⟨Nat.le_of_ble_eq_true rfl, Nat.le_of_ble_eq_true rfl⟩ rfl rfl ⟨Nat.le_of_ble_eq_true rfl, Nat.le_of_ble_eq_true rfl⟩ (Nat.le_of_ble_eq_true rfl) rfl ?_
                                        refine g_imul C (pc := 279) dX3_several_279 ?_
                                        refine g_sipush C (pc := 280) (v := 1019) dX3_several_280 (by decide) ?_
                                        refine g_irem C (pc := 283) dX3_several_283 (by decide) ?_
                                        refine g_aload_n C (pc := 284) dX3_several_284 rfl rfl ?_
                                        refine g_iload_n C (pc := 285) dX3_several_285 rfl ?_
                                        refine g_iload C (pc := 286) dX3_several_286 rfl ?_
                                        refine g_callVD C (pc := 288) [.int p, .int (nI j)] [.int (jrem ((sevH S s t y) * (weight (nI j) s)) 1019), .int ((v + (drawn x_256 1018)) + 1)] dX3_several_288 (c_X3_pieceOf l D B K (sI S 0 0) h n p (nI j) (hS.setI 0 rfl) c_19) (lw_V q1571 q1573 qs46 q87 q1574) (wd_20 _ _ _) rfl rfl ds_X3_pieceOf ⟨rfl, rfl⟩ ⟨Nat.le_of_ble_eq_true rfl, Nat.le_of_ble_eq_true rfl⟩ rfl rfl ⟨Nat.le_of_ble_eq_true rfl, Nat.le_of_ble_eq_true rfl⟩ (Nat.le_of_ble_eq_true rfl) rfl ?_
                                        refine g_imul C (pc := 291) dX3_several_291 ?_
                                        refine g_iadd C (pc := 292) dX3_several_292 ?_
                                        refine g_sipush C (pc := 293) (v := 1019) dX3_several_293 (by decide) ?_
                                        refine g_irem C (pc := 296) dX3_several_296 (by decide) ?_
                                        refine G.topi (fun x_297 e_x_297 => ?_)
                                        have e_x_297 : x_297 = jrem (((v + (drawn x_256 1018)) + 1) + ((jrem ((sevH S s t y) * (weight (nI j) s)) 1019) * (pieceM S p (nI j)))) 1019 := e_x_297
                                        refine g_istore C (pc := 297) (L' := [some (.ref 20), some (.int p), some (.int s), some (.int t), some (.long y), none, some (.long x_256), none, some (.int ((sevR s y (mN S 12)).2)), some (.int x_297), some (.int (sevH S s t y)), some (.int (nI j))]) dX3_several_297 (by decide) rfl rfl ?_
                                        refine g_iinc C (pc := 299) (v := nI (j + 1)) (L' := [some (.ref 20), some (.int p), some (.int s), some (.int t), some (.long y), none, some (.long x_256), none, some (.int ((sevR s y (mN S 12)).2)), some (.int x_297), some (.int (sevH S s t y)), some (.int (nI (j + 1)))]) dX3_several_299 rfl (nI_inc _) (by decide) rfl rfl ?_
                                        refine g_goto C (pc := 302) (tgt := 230) dX3_several_302 (by decide) ?_
                                        refine G.mask [true, true, true, true, true, false, true, false, true, true, true, true] rfl ?_
                                        exact ih230 (j + 1) x_256 x_297 (by omega) (by simp only [sevS]; first | (rw [if_pos c_245]; exact hz) | (rw [if_neg c_245, e_x_256, hz])) (by simp only [sevS]; first | (rw [if_pos c_245]; exact hv) | (rw [if_neg c_245, e_x_297, e_x_256, hz, hv])) (by omega)
                                      · skip
                                        refine g_goto C (pc := 248) (tgt := 299) dX3_several_248 (by decide) ?_
                                        refine g_iinc C (pc := 299) (v := nI (j + 1)) (L' := [some (.ref 20), some (.int p), some (.int s), some (.int t), some (.long y), none, some (.long z), none, some (.int ((sevR s y (mN S 12)).2)), some (.int v), some (.int (sevH S s t y)), some (.int (nI (j + 1)))]) dX3_several_299 rfl (nI_inc _) (by decide) rfl rfl ?_
                                        refine g_goto C (pc := 302) (tgt := 230) dX3_several_302 (by decide) ?_
                                        refine G.mask [true, true, true, true, true, false, true, false, true, true, true, true] rfl ?_
                                        exact ih230 (j + 1) z v (by omega) (by simp only [sevS]; first | (rw [if_pos c_245]; exact hz) | (rw [if_neg c_245, e_x_256, hz])) (by simp only [sevS]; first | (rw [if_pos c_245]; exact hv) | (rw [if_neg c_245, e_x_297, e_x_256, hz, hv])) (by omega)
                                refine G.mask [true, true, true, true, true, false, true, false, true, true, true, true] rfl ?_
                                exact loop_230 _ 0 y 0 (Nat.zero_le _) (rfl) (rfl) (Nat.lt_succ_self _)
                              · skip
                                have hcn : ¬ sevH S s t y = 0 := c_188
                                refine g_iload_n C (pc := 191) dX3_several_191 rfl ?_
                                refine g_iload C (pc := 192) dX3_several_192 rfl ?_
                                refine g_ishr C (pc := 194) dX3_several_194 ?_
                                refine g_iconst C (pc := 195) (v := 1) dX3_several_195 (by decide) ?_
                                refine g_iand C (pc := 196) dX3_several_196 ?_
                                refine g_iconst C (pc := 197) (v := 1) dX3_several_197 (by decide) ?_
                                refine g_icmp_ne C (pc := 198) (tgt := 217) dX3_several_198 (by decide) (fun c_198 => ?_) (fun c_198 => ?_)
                                · skip
                                  have c_198 : ¬ (((s >>> ((nI j) &&& 31)) &&& 1) : Int32) = 1 := c_198
                                  refine g_iinc C (pc := 217) (v := nI (j + 1)) (L' := [some (.ref 20), some (.int p), some (.int s), some (.int t), some (.long y), none, none, none, some (.int ((sevR s y (mN S 12)).2)), some (.int 0), some (.int (sevH S s t y)), some (.int (nI (j + 1)))]) dX3_several_217 rfl (nI_inc _) (by decide) rfl rfl ?_
                                  refine g_goto C (pc := 220) (tgt := 177) dX3_several_220 (by decide) ?_
                                  refine G.mask [true, true, true, true, true, false, false, false, true, true, true, true] rfl ?_
                                  exact ih177 (j + 1) (by omega) (by simp only [firF, hf]; rw [if_neg (by grind)]) (by omega)
                                · skip
                                  have c_198 : (((s >>> ((nI j) &&& 31)) &&& 1) : Int32) = 1 := c_198
                                  refine g_aload_n C (pc := 201) dX3_several_201 rfl rfl ?_
                                  refine m_geta C 11 30 (pc := 202) dX3_several_202 (by decide) (fun _ => rfl) q1204 rfl ?_
                                  refine g_iload C (pc := 205) dX3_several_205 rfl ?_
                                  refine m_zald C (pc := 207) (v := nb ((S.2.1 30) j)) dX3_several_207 (by decide) rfl (vp_in_nI (by omega) (by decide)) (congrArg nb (gix (S.2.1 30) (by omega))) ?_
                                  refine g_if_eq C (pc := 208) (tgt := 217) dX3_several_208 (by decide) (fun c_208 => ?_) (fun c_208 => ?_)
                                  · skip
                                    have c_208 := nb_0.mp c_208
                                    refine g_iinc C (pc := 217) (v := nI (j + 1)) (L' := [some (.ref 20), some (.int p), some (.int s), some (.int t), some (.long y), none, none, none, some (.int ((sevR s y (mN S 12)).2)), some (.int 0), some (.int (sevH S s t y)), some (.int (nI (j + 1)))]) dX3_several_217 rfl (nI_inc _) (by decide) rfl rfl ?_
                                    refine g_goto C (pc := 220) (tgt := 177) dX3_several_220 (by decide) ?_
                                    refine G.mask [true, true, true, true, true, false, false, false, true, true, true, true] rfl ?_
                                    exact ih177 (j + 1) (by omega) (by simp only [firF, hf]; rw [if_neg (by grind)]) (by omega)
                                  · skip
                                    have c_208 := nb_n0.mp c_208
                                    have hff : firF S.2.1 s (mN S 12) = some j := firF_mono (i := j + 1) (by simp only [firF, hf]; rw [if_pos ⟨c_198, c_208⟩]) (by omega)
                                    refine g_bipush C (pc := 211) (v := (-2)) dX3_several_211 (by decide) ?_
                                    refine g_iload C (pc := 213) dX3_several_213 rfl ?_
                                    refine g_isub C (pc := 215) dX3_several_215 ?_
                                    exact g_iretD C R dX3_several_216 (Nat.le_refl _) (Nat.le_refl _) (by unfold m_several; first | (rw [if_neg hC]; first | (rw [if_neg hno]; rfl) | (rw [if_pos ⟨hcn, by rw [hff]; exact fun z => by cases z⟩, hff]; rfl)) | (rw [if_pos (by grind)])) (congrArg (fun z => wd K z h) (by unfold m_several; first | (rw [if_neg hC]; first | (rw [if_neg hno, e_S_317]) | (rw [if_pos ⟨hcn, by rw [hff]; exact fun z => by cases z⟩])) | (rw [if_pos (by grind)]))) rfl
                        refine G.mask [true, true, true, true, true, false, false, false, true, true, true, true] rfl ?_
                        exact loop_177 _ 0 (Nat.zero_le _) (rfl) (Nat.lt_succ_self _)
                      · skip
                        have c_111 : j < (mN S 12) := (nI_ltI (a := j) (b := (mN S 12)) (by omega) (by omega)).mp c_111
                        refine g_iload_n C (pc := 114) dX3_several_114 rfl ?_
                        refine g_iload C (pc := 115) dX3_several_115 rfl ?_
                        refine g_ishr C (pc := 117) dX3_several_117 ?_
                        refine g_iconst C (pc := 118) (v := 1) dX3_several_118 (by decide) ?_
                        refine g_iand C (pc := 119) dX3_several_119 ?_
                        refine g_if_ne C (pc := 120) (tgt := 126) dX3_several_120 (by decide) (fun c_120 => ?_) (fun c_120 => ?_)
                        · skip
                          refine g_lload C (pc := 126) dX3_several_126 rfl ?_
                          refine g_callSD C (pc := 128) [.long z] [] dX3_several_128 (c_X3_next l D B (wd K (sI S 0 0) h) n z ) (lw_S q1547 q1548 q87 q1549) ds_X3_next ⟨rfl, rfl⟩ ⟨Nat.le_of_ble_eq_true rfl, Nat.le_of_ble_eq_true rfl⟩ rfl rfl ⟨Nat.le_of_ble_eq_true rfl, Nat.le_of_ble_eq_true rfl⟩ (Nat.le_of_ble_eq_true rfl) rfl ?_
                          refine G.topl (fun x_131 e_x_131 => ?_)
                          have e_x_131 : x_131 = lcg z := e_x_131
                          refine g_lstore C (pc := 131) (L' := [some (.ref 20), some (.int p), some (.int s), some (.int t), some (.long y), none, some (.long x_131), none, some (.int r), some (.int 0), some (.int (nI j)), none]) dX3_several_131 (by decide) rfl rfl ?_
                          refine g_iload C (pc := 133) dX3_several_133 rfl ?_
                          refine g_lload C (pc := 135) dX3_several_135 rfl ?_
                          refine g_sipush C (pc := 137) (v := 1018) dX3_several_137 (by decide) ?_
                          refine g_callSD C (pc := 140) [.long x_131, .int 1018] [.int r] dX3_several_140 (c_X3_drawn l D B (wd K (sI S 0 0) h) n x_131 1018 (by decide)) (lw_S q1552 q1553 q87 q1554) ds_X3_drawn ⟨rfl, rfl⟩ ⟨Nat.le_of_ble_eq_true rfl, Nat.le_of_ble_eq_true rfl⟩ rfl rfl ⟨Nat.le_of_ble_eq_true rfl, Nat.le_of_ble_eq_true rfl⟩ (Nat.le_of_ble_eq_true rfl) rfl ?_
                          refine g_iconst C (pc := 143) (v := 1) dX3_several_143 (by decide) ?_
                          refine g_iadd C (pc := 144) dX3_several_144 ?_
                          refine g_callSD C (pc := 145) [.int ((drawn x_131 1018) + 1)] [.int r] dX3_several_145 (c_X3_four l D B (wd K (sI S 0 0) h) n ((drawn x_131 1018) + 1) ) (lw_S q1500 q1501 q87 q1502) ds_X3_four ⟨rfl, rfl⟩ ⟨Nat.le_of_ble_eq_true rfl, Nat.le_of_ble_eq_true rfl⟩ rfl rfl ⟨Nat.le_of_ble_eq_true rfl, Nat.le_of_ble_eq_true rfl⟩ (Nat.le_of_ble_eq_true rfl) rfl ?_
                          refine g_imul C (pc := 148) dX3_several_148 ?_
                          refine g_sipush C (pc := 149) (v := 2039) dX3_several_149 (by decide) ?_
                          refine g_irem C (pc := 152) dX3_several_152 (by decide) ?_
                          refine G.topi (fun x_153 e_x_153 => ?_)
                          have e_x_153 : x_153 = jrem (r * (four ((drawn x_131 1018) + 1))) 2039 := e_x_153
                          refine g_istore C (pc := 153) (L' := [some (.ref 20), some (.int p), some (.int s), some (.int t), some (.long y), none, some (.long x_131), none, some (.int x_153), some (.int 0), some (.int (nI j)), none]) dX3_several_153 (by decide) rfl rfl ?_
                          refine g_iinc C (pc := 155) (v := nI (j + 1)) (L' := [some (.ref 20), some (.int p), some (.int s), some (.int t), some (.long y), none, some (.long x_131), none, some (.int x_153), some (.int 0), some (.int (nI (j + 1))), none]) dX3_several_155 rfl (nI_inc _) (by decide) rfl rfl ?_
                          refine g_goto C (pc := 158) (tgt := 105) dX3_several_158 (by decide) ?_
                          refine G.mask [true, true, true, true, true, false, true, false, true, true, true, false] rfl ?_
                          exact ih105 (j + 1) x_131 x_153 (by omega) (by simp only [sevR]; first | (rw [if_pos c_120]; exact hz) | (rw [if_neg c_120, e_x_131, hz])) (by simp only [sevR]; first | (rw [if_pos c_120]; exact hr) | (rw [if_neg c_120, e_x_153, e_x_131, hz, hr])) (by omega)
                        · skip
                          refine g_goto C (pc := 123) (tgt := 155) dX3_several_123 (by decide) ?_
                          refine g_iinc C (pc := 155) (v := nI (j + 1)) (L' := [some (.ref 20), some (.int p), some (.int s), some (.int t), some (.long y), none, some (.long z), none, some (.int r), some (.int 0), some (.int (nI (j + 1))), none]) dX3_several_155 rfl (nI_inc _) (by decide) rfl rfl ?_
                          refine g_goto C (pc := 158) (tgt := 105) dX3_several_158 (by decide) ?_
                          refine G.mask [true, true, true, true, true, false, true, false, true, true, true, false] rfl ?_
                          exact ih105 (j + 1) z r (by omega) (by simp only [sevR]; first | (rw [if_pos c_120]; exact hz) | (rw [if_neg c_120, e_x_131, hz])) (by simp only [sevR]; first | (rw [if_pos c_120]; exact hr) | (rw [if_neg c_120, e_x_153, e_x_131, hz, hr])) (by omega)
                  refine G.mask [true, true, true, true, true, false, true, false, true, true, true, false] rfl ?_
                  exact loop_105 _ 0 y 1 (Nat.zero_le _) (rfl) (rfl) (Nat.lt_succ_self _)
                · skip
                  have c_87 : ¬ (maySign S ((S.2.1 36) ((p).toNatClampNeg))) := p2i_0.mp c_87
                  refine g_iconst C (pc := 90) (v := (-1)) dX3_several_90 (by decide) ?_
                  exact g_iretD C R dX3_several_91 (Nat.le_refl _) (Nat.le_refl _) (by unfold m_several; first | (rw [if_neg hC]; first | (rw [if_neg hno]; rfl) | (rw [if_pos ⟨hcn, by rw [hff]; exact fun z => by cases z⟩, hff]; rfl)) | (rw [if_pos (by grind)])) (congrArg (fun z => wd K z h) (by unfold m_several; first | (rw [if_neg hC]; first | (rw [if_neg hno, e_S_317]) | (rw [if_pos ⟨hcn, by rw [hff]; exact fun z => by cases z⟩])) | (rw [if_pos (by grind)]))) rfl
theorem ds_X3_several : yX3_several.cls ≠ "java/lang/invoke/MethodHandle" ∧ yX3_several.cls ≠ "java/lang/invoke/VarHandle" ∧ (parseMethodDescriptor yX3_several.desc).map (fun d => d.parameters.length) = some 4 := by decide +kernel
set_option maxHeartbeats 4000000 in
set_option maxRecDepth 100000 in
theorem c_X3_signed (l : Launch) (D : gD) (B : Nat × Nat) (K : KS) (S : MS) (h : gHp) (n : Nat) (i : Int32) (w : Int32) (hS : MOK S) : Con l yX3_signed (ws_ yX3_signed cX3_signed 3 (some .int)) ({ frames := 1, cells := 0, slots := 0, locals := 22 }) D B [.ref 20, .int i, .int w] (wd K S h) n (gdt (some (.int (m_signed S i w))) (wd K ((sI S 0 0)) h) n) 0 0 := by
  have b12 := hS.c12.2
  have b13 := hS.c13.2
  have b14 := hS.c14.2
  have b16 := hS.c16.2
  have b29 := hS.c29.2
  have b30 := hS.c30.2
  have b31 := hS.c31.2
  have b48 := hS.c48.2
  have b49 := hS.c49.2
  have b50 := hS.c50.2
  have b51 := hS.c51.2
  have b77 := hS.c77.2
  have b78 := hS.c78.2
  have b79 := hS.c79.2
  have b82 := hS.c82.2
  refine Con.begin [some (.ref 20), some (.int i), some (.int w)] rfl rfl (Nat.le_of_ble_eq_true rfl) rfl rfl (fun X C R => ?_)
  refine g_aload_n C (pc := 0) dX3_signed_0 rfl rfl ?_
  refine g_iconst C (pc := 1) (v := 0) dX3_signed_1 (by decide) ?_
  refine m_puti C 0 (pc := 2) dX3_signed_2 rfl q1193 rfl rfl rfl ?_
  refine g_iload_n C (pc := 5) dX3_signed_5 rfl ?_
  refine g_iconst C (pc := 6) (v := 0) dX3_signed_6 (by decide) ?_
  refine g_aload_n C (pc := 7) dX3_signed_7 rfl rfl ?_
  refine m_geti C 77 (pc := 8) (v := nI (mN S 77)) dX3_signed_8 rfl q1270 rfl hS.c77.1 ?_
  refine g_iconst C (pc := 11) (v := 1) dX3_signed_11 (by decide) ?_
  refine g_isub C (pc := 12) dX3_signed_12 ?_
  refine g_callSD C (pc := 13) [.int i, .int 0, .int ((nI (mN S 77)) - 1)] [] dX3_signed_13 (c_X3_isIn l D B (wd K (sI S 0 0) h) n i 0 ((nI (mN S 77)) - 1) ) (lw_S q1458 q1459 q87 q1460) ds_X3_isIn ⟨rfl, rfl⟩ ⟨Nat.le_of_ble_eq_true rfl, Nat.le_of_ble_eq_true rfl⟩ rfl rfl ⟨Nat.le_of_ble_eq_true rfl, Nat.le_of_ble_eq_true rfl⟩ (Nat.le_of_ble_eq_true rfl) rfl ?_
  refine g_if_ne C (pc := 16) (tgt := 21) dX3_signed_16 (by decide) (fun c_16 => ?_) (fun c_16 => ?_)
  · skip
    have c_16 : (isIn i 0 ((nI (mN S 77)) - 1)) := p2i_n0.mp c_16
    refine g_iload_n C (pc := 21) dX3_signed_21 rfl ?_
    by_cases cs_22_0 : w = 0
    · skip
      refine g_tableIn C (pc := 22) (tgt := 56) dX3_signed_22 (by rw [cs_22_0]; decide) (by rw [cs_22_0]; decide) (by rw [cs_22_0]; rfl) (by decide) ?_
      refine g_aload_n C (pc := 56) dX3_signed_56 rfl rfl ?_
      refine m_geta C 64 61 (pc := 57) dX3_signed_57 (by decide) (fun _ => rfl) q1257 rfl ?_
      refine g_iload_n C (pc := 60) dX3_signed_60 rfl ?_
      refine m_iald C (pc := 61) (v := (S.2.1 61) ((i).toNatClampNeg)) dX3_signed_61 (by decide) rfl (isIn_in b77 (by decide) c_16) rfl ?_
      exact g_iretD C R dX3_signed_62 (Nat.le_refl _) (Nat.le_refl _) (by unfold m_signed; first | (rw [if_pos (by  grind)] <;> first | rfl | (simp [mN_sI_ne, sI_2, p2i, b2i, *]; done) | grind) | (rw [if_neg (by  grind)] <;> first | rfl | (simp [mN_sI_ne, sI_2, p2i, b2i, *]; done) | grind)) (congrArg (fun z => wd K z h) (rfl)) rfl
    by_cases cs_22_1 : w = 1
    · skip
      refine g_tableIn C (pc := 22) (tgt := 63) dX3_signed_22 (by rw [cs_22_1]; decide) (by rw [cs_22_1]; decide) (by rw [cs_22_1]; rfl) (by decide) ?_
      refine g_aload_n C (pc := 63) dX3_signed_63 rfl rfl ?_
      refine m_geta C 65 62 (pc := 64) dX3_signed_64 (by decide) (fun _ => rfl) q1258 rfl ?_
      refine g_iload_n C (pc := 67) dX3_signed_67 rfl ?_
      refine m_iald C (pc := 68) (v := (S.2.1 62) ((i).toNatClampNeg)) dX3_signed_68 (by decide) rfl (isIn_in b77 (by decide) c_16) rfl ?_
      exact g_iretD C R dX3_signed_69 (Nat.le_refl _) (Nat.le_refl _) (by unfold m_signed; first | (rw [if_pos (by  grind)] <;> first | rfl | (simp [mN_sI_ne, sI_2, p2i, b2i, *]; done) | grind) | (rw [if_neg (by  grind)] <;> first | rfl | (simp [mN_sI_ne, sI_2, p2i, b2i, *]; done) | grind)) (congrArg (fun z => wd K z h) (rfl)) rfl
    by_cases cs_22_2 : w = 2
    · skip
      refine g_tableIn C (pc := 22) (tgt := 70) dX3_signed_22 (by rw [cs_22_2]; decide) (by rw [cs_22_2]; decide) (by rw [cs_22_2]; rfl) (by decide) ?_
      refine g_aload_n C (pc := 70) dX3_signed_70 rfl rfl ?_
      refine m_geta C 66 63 (pc := 71) dX3_signed_71 (by decide) (fun _ => rfl) q1259 rfl ?_
      refine g_iload_n C (pc := 74) dX3_signed_74 rfl ?_
      refine m_iald C (pc := 75) (v := (S.2.1 63) ((i).toNatClampNeg)) dX3_signed_75 (by decide) rfl (isIn_in b77 (by decide) c_16) rfl ?_
      exact g_iretD C R dX3_signed_76 (Nat.le_refl _) (Nat.le_refl _) (by unfold m_signed; first | (rw [if_pos (by  grind)] <;> first | rfl | (simp [mN_sI_ne, sI_2, p2i, b2i, *]; done) | grind) | (rw [if_neg (by  grind)] <;> first | rfl | (simp [mN_sI_ne, sI_2, p2i, b2i, *]; done) | grind)) (congrArg (fun z => wd K z h) (rfl)) rfl
    by_cases cs_22_3 : w = 3
    · skip
      refine g_tableIn C (pc := 22) (tgt := 77) dX3_signed_22 (by rw [cs_22_3]; decide) (by rw [cs_22_3]; decide) (by rw [cs_22_3]; rfl) (by decide) ?_
      refine g_aload_n C (pc := 77) dX3_signed_77 rfl rfl ?_
      refine m_geta C 67 64 (pc := 78) dX3_signed_78 (by decide) (fun _ => rfl) q1260 rfl ?_
      refine g_iload_n C (pc := 81) dX3_signed_81 rfl ?_
      refine m_iald C (pc := 82) (v := (S.2.1 64) ((i).toNatClampNeg)) dX3_signed_82 (by decide) rfl (isIn_in b77 (by decide) c_16) rfl ?_
      exact g_iretD C R dX3_signed_83 (Nat.le_refl _) (Nat.le_refl _) (by unfold m_signed; first | (rw [if_pos (by  grind)] <;> first | rfl | (simp [mN_sI_ne, sI_2, p2i, b2i, *]; done) | grind) | (rw [if_neg (by  grind)] <;> first | rfl | (simp [mN_sI_ne, sI_2, p2i, b2i, *]; done) | grind)) (congrArg (fun z => wd K z h) (rfl)) rfl
    by_cases cs_22_4 : w = 4
    · skip
      refine g_tableIn C (pc := 22) (tgt := 84) dX3_signed_22 (by rw [cs_22_4]; decide) (by rw [cs_22_4]; decide) (by rw [cs_22_4]; rfl) (by decide) ?_
      refine g_aload_n C (pc := 84) dX3_signed_84 rfl rfl ?_
      refine m_geta C 68 65 (pc := 85) dX3_signed_85 (by decide) (fun _ => rfl) q1261 rfl ?_
      refine g_iload_n C (pc := 88) dX3_signed_88 rfl ?_
      refine m_iald C (pc := 89) (v := (S.2.1 65) ((i).toNatClampNeg)) dX3_signed_89 (by decide) rfl (isIn_in b77 (by decide) c_16) rfl ?_
      exact g_iretD C R dX3_signed_90 (Nat.le_refl _) (Nat.le_refl _) (by unfold m_signed; first | (rw [if_pos (by  grind)] <;> first | rfl | (simp [mN_sI_ne, sI_2, p2i, b2i, *]; done) | grind) | (rw [if_neg (by  grind)] <;> first | rfl | (simp [mN_sI_ne, sI_2, p2i, b2i, *]; done) | grind)) (congrArg (fun z => wd K z h) (rfl)) rfl
    refine g_tableOut C (pc := 22) (tgt := 91) dX3_signed_22 (sw_out5 cs_22_0 cs_22_1 cs_22_2 cs_22_3 cs_22_4) (by decide) ?_
    refine g_iconst C (pc := 91) (v := (-1)) dX3_signed_91 (by decide) ?_
    exact g_iretD C R dX3_signed_92 (Nat.le_refl _) (Nat.le_refl _) (by unfold m_signed; first | (rw [if_pos (by  grind)] <;> first | rfl | (simp [mN_sI_ne, sI_2, p2i, b2i, *]; done) | grind) | (rw [if_neg (by  grind)] <;> first | rfl | (simp [mN_sI_ne, sI_2, p2i, b2i, *]; done) | grind)) (congrArg (fun z => wd K z h) (rfl)) rfl
  · skip
    have c_16 : ¬ (isIn i 0 ((nI (mN S 77)) - 1)) := p2i_0.mp c_16
    refine g_iconst C (pc := 19) (v := (-1)) dX3_signed_19 (by decide) ?_
    exact g_iretD C R dX3_signed_20 (Nat.le_refl _) (Nat.le_refl _) (by unfold m_signed; first | (rw [if_pos (by  grind)] <;> first | rfl | (simp [mN_sI_ne, sI_2, p2i, b2i, *]; done) | grind) | (rw [if_neg (by  grind)] <;> first | rfl | (simp [mN_sI_ne, sI_2, p2i, b2i, *]; done) | grind)) (congrArg (fun z => wd K z h) (rfl)) rfl
theorem ds_X3_signed : yX3_signed.cls ≠ "java/lang/invoke/MethodHandle" ∧ yX3_signed.cls ≠ "java/lang/invoke/VarHandle" ∧ (parseMethodDescriptor yX3_signed.desc).map (fun d => d.parameters.length) = some 2 := by decide +kernel
set_option maxHeartbeats 4000000 in
set_option maxRecDepth 100000 in
theorem c_X3_taken (l : Launch) (D : gD) (B : Nat × Nat) (K : KS) (S : MS) (h : gHp) (n : Nat) (t : Int32) (k : Int32) (r : Int32) (s : Int32) (hS : MOK S) : Con l yX3_taken (ws_ yX3_taken cX3_taken 5 (some .int)) ({ frames := 2, cells := 0, slots := 0, locals := 44 }) D B [.ref 20, .int t, .int k, .int r, .int s] (wd K S h) n (gdt (some (.int (m_taken S t k r s))) (wd K ((sI S 0 0)) h) n) 0 0 := by
  have b12 := hS.c12.2
  have b13 := hS.c13.2
  have b14 := hS.c14.2
  have b16 := hS.c16.2
  have b29 := hS.c29.2
  have b30 := hS.c30.2
  have b31 := hS.c31.2
  have b48 := hS.c48.2
  have b49 := hS.c49.2
  have b50 := hS.c50.2
  have b51 := hS.c51.2
  have b77 := hS.c77.2
  have b78 := hS.c78.2
  have b79 := hS.c79.2
  have b82 := hS.c82.2
  refine Con.begin [some (.ref 20), some (.int t), some (.int k), some (.int r), some (.int s)] rfl rfl (Nat.le_of_ble_eq_true rfl) rfl rfl (fun X C R => ?_)
  refine g_aload_n C (pc := 0) dX3_taken_0 rfl rfl ?_
  refine g_iconst C (pc := 1) (v := 0) dX3_taken_1 (by decide) ?_
  refine m_puti C 0 (pc := 2) dX3_taken_2 rfl q1193 rfl rfl rfl ?_
  refine g_aload_n C (pc := 5) dX3_taken_5 rfl rfl ?_
  refine g_iload_n C (pc := 6) dX3_taken_6 rfl ?_
  refine g_callVD C (pc := 7) [.int t] [] dX3_taken_7 (c_X3_isThing l D B K (sI S 0 0) h n t ) (lw_V q1705 q1707 qs66 q87 q1708) (wd_20 _ _ _) rfl rfl ds_X3_isThing ⟨rfl, rfl⟩ ⟨Nat.le_of_ble_eq_true rfl, Nat.le_of_ble_eq_true rfl⟩ rfl rfl ⟨Nat.le_of_ble_eq_true rfl, Nat.le_of_ble_eq_true rfl⟩ (Nat.le_of_ble_eq_true rfl) rfl ?_
  refine g_if_eq C (pc := 10) (tgt := 44) dX3_taken_10 (by decide) (fun c_10 => ?_) (fun c_10 => ?_)
  · skip
    have c_10 : ¬ (isThing S t) := p2i_0.mp c_10
    refine g_iconst C (pc := 44) (v := (-1)) dX3_taken_44 (by decide) ?_
    exact g_iretD C R dX3_taken_45 (Nat.le_refl _) (Nat.le_refl _) (by unfold m_taken; first | (rw [if_neg (by grind)]; first | (rw [if_pos c_82]; done) | (rw [if_neg c_82]; done)) | (rw [if_pos (by grind)])) (congrArg (fun z => wd K z h) (rfl)) rfl
  · skip
    have c_10 : (isThing S t) := p2i_n0.mp c_10
    refine g_aload_n C (pc := 13) dX3_taken_13 rfl rfl ?_
    refine g_iload_n C (pc := 14) dX3_taken_14 rfl ?_
    refine g_callVD C (pc := 15) [.int k] [] dX3_taken_15 (c_X3_isKey l D B K (sI S 0 0) h n k ) (lw_V q1492 q1494 qs38 q87 q1495) (wd_20 _ _ _) rfl rfl ds_X3_isKey ⟨rfl, rfl⟩ ⟨Nat.le_of_ble_eq_true rfl, Nat.le_of_ble_eq_true rfl⟩ rfl rfl ⟨Nat.le_of_ble_eq_true rfl, Nat.le_of_ble_eq_true rfl⟩ (Nat.le_of_ble_eq_true rfl) rfl ?_
    refine g_if_eq C (pc := 18) (tgt := 44) dX3_taken_18 (by decide) (fun c_18 => ?_) (fun c_18 => ?_)
    · skip
      have c_18 : ¬ (isKey S k) := p2i_0.mp c_18
      refine g_iconst C (pc := 44) (v := (-1)) dX3_taken_44 (by decide) ?_
      exact g_iretD C R dX3_taken_45 (Nat.le_refl _) (Nat.le_refl _) (by unfold m_taken; first | (rw [if_neg (by grind)]; first | (rw [if_pos c_82]; done) | (rw [if_neg c_82]; done)) | (rw [if_pos (by grind)])) (congrArg (fun z => wd K z h) (rfl)) rfl
    · skip
      have c_18 : (isKey S k) := p2i_n0.mp c_18
      refine g_iload_n C (pc := 21) dX3_taken_21 rfl ?_
      refine g_iconst C (pc := 22) (v := 1) dX3_taken_22 (by decide) ?_
      refine g_sipush C (pc := 23) (v := 2038) dX3_taken_23 (by decide) ?_
      refine g_callSD C (pc := 26) [.int r, .int 1, .int 2038] [] dX3_taken_26 (c_X3_isIn l D B (wd K (sI S 0 0) h) n r 1 2038 ) (lw_S q1458 q1459 q87 q1460) ds_X3_isIn ⟨rfl, rfl⟩ ⟨Nat.le_of_ble_eq_true rfl, Nat.le_of_ble_eq_true rfl⟩ rfl rfl ⟨Nat.le_of_ble_eq_true rfl, Nat.le_of_ble_eq_true rfl⟩ (Nat.le_of_ble_eq_true rfl) rfl ?_
      refine g_if_eq C (pc := 29) (tgt := 44) dX3_taken_29 (by decide) (fun c_29 => ?_) (fun c_29 => ?_)
      · skip
        have c_29 : ¬ (isIn r 1 2038) := p2i_0.mp c_29
        refine g_iconst C (pc := 44) (v := (-1)) dX3_taken_44 (by decide) ?_
        exact g_iretD C R dX3_taken_45 (Nat.le_refl _) (Nat.le_refl _) (by unfold m_taken; first | (rw [if_neg (by grind)]; first | (rw [if_pos c_82]; done) | (rw [if_neg c_82]; done)) | (rw [if_pos (by grind)])) (congrArg (fun z => wd K z h) (rfl)) rfl
      · skip
        have c_29 : (isIn r 1 2038) := p2i_n0.mp c_29
        refine g_iload C (pc := 32) dX3_taken_32 rfl ?_
        refine g_iconst C (pc := 34) (v := 0) dX3_taken_34 (by decide) ?_
        refine g_sipush C (pc := 35) (v := 1018) dX3_taken_35 (by decide) ?_
        refine g_callSD C (pc := 38) [.int s, .int 0, .int 1018] [] dX3_taken_38 (c_X3_isIn l D B (wd K (sI S 0 0) h) n s 0 1018 ) (lw_S q1458 q1459 q87 q1460) ds_X3_isIn ⟨rfl, rfl⟩ ⟨Nat.le_of_ble_eq_true rfl, Nat.le_of_ble_eq_true rfl⟩ rfl rfl ⟨Nat.le_of_ble_eq_true rfl, Nat.le_of_ble_eq_true rfl⟩ (Nat.le_of_ble_eq_true rfl) rfl ?_
        refine g_if_ne C (pc := 41) (tgt := 46) dX3_taken_41 (by decide) (fun c_41 => ?_) (fun c_41 => ?_)
        · skip
          have c_41 : (isIn s 0 1018) := p2i_n0.mp c_41
          refine g_iload C (pc := 46) dX3_taken_46 rfl ?_
          refine g_callSD C (pc := 48) [.int s] [] dX3_taken_48 (c_X3_four l D B (wd K (sI S 0 0) h) n s ) (lw_S q1500 q1501 q87 q1502) ds_X3_four ⟨rfl, rfl⟩ ⟨Nat.le_of_ble_eq_true rfl, Nat.le_of_ble_eq_true rfl⟩ rfl rfl ⟨Nat.le_of_ble_eq_true rfl, Nat.le_of_ble_eq_true rfl⟩ (Nat.le_of_ble_eq_true rfl) rfl ?_
          refine g_iload_n C (pc := 51) dX3_taken_51 rfl ?_
          refine g_aload_n C (pc := 52) dX3_taken_52 rfl rfl ?_
          refine m_geta C 3 22 (pc := 53) dX3_taken_53 (by decide) (fun _ => rfl) q1196 rfl ?_
          refine g_iload_n C (pc := 56) dX3_taken_56 rfl ?_
          refine m_iald C (pc := 57) (v := (S.2.1 22) ((k).toNatClampNeg)) dX3_taken_57 (by decide) rfl (isKey.inr hS c_18) rfl ?_
          refine g_callSD C (pc := 58) [.int ((S.2.1 22) ((k).toNatClampNeg))] [.int r, .int (four s)] dX3_taken_58 (c_X3_four l D B (wd K (sI S 0 0) h) n ((S.2.1 22) ((k).toNatClampNeg)) ) (lw_S q1500 q1501 q87 q1502) ds_X3_four ⟨rfl, rfl⟩ ⟨Nat.le_of_ble_eq_true rfl, Nat.le_of_ble_eq_true rfl⟩ rfl rfl ⟨Nat.le_of_ble_eq_true rfl, Nat.le_of_ble_eq_true rfl⟩ (Nat.le_of_ble_eq_true rfl) rfl ?_
          refine g_iload_n C (pc := 61) dX3_taken_61 rfl ?_
          refine g_aload_n C (pc := 62) dX3_taken_62 rfl rfl ?_
          refine m_geta C 38 50 (pc := 63) dX3_taken_63 (by decide) (fun _ => rfl) q1231 rfl ?_
          refine g_iload_n C (pc := 66) dX3_taken_66 rfl ?_
          refine m_iald C (pc := 67) (v := (S.2.1 50) ((t).toNatClampNeg)) dX3_taken_67 (by decide) rfl (isThing.inr hS c_10) rfl ?_
          refine g_callSD C (pc := 68) [.int r, .int ((S.2.1 50) ((t).toNatClampNeg))] [.int (four ((S.2.1 22) ((k).toNatClampNeg))), .int r, .int (four s)] dX3_taken_68 (c_X3_challenge l D B (wd K (sI S 0 0) h) n r ((S.2.1 50) ((t).toNatClampNeg)) ) (lw_S q1764 q1765 q87 q1766) ds_X3_challenge ⟨rfl, rfl⟩ ⟨Nat.le_of_ble_eq_true rfl, Nat.le_of_ble_eq_true rfl⟩ rfl rfl ⟨Nat.le_of_ble_eq_true rfl, Nat.le_of_ble_eq_true rfl⟩ (Nat.le_of_ble_eq_true rfl) rfl ?_
          refine g_sipush C (pc := 71) (v := 2039) dX3_taken_71 (by decide) ?_
          refine g_callSD C (pc := 74) [.int (four ((S.2.1 22) ((k).toNatClampNeg))), .int (chal r ((S.2.1 50) ((t).toNatClampNeg))), .int 2039] [.int r, .int (four s)] dX3_taken_74 (c_X3_power l D B (wd K (sI S 0 0) h) n (four ((S.2.1 22) ((k).toNatClampNeg))) (chal r ((S.2.1 50) ((t).toNatClampNeg))) 2039 (by decide)) (lw_S q1503 q1504 q87 q1505) ds_X3_power ⟨rfl, rfl⟩ ⟨Nat.le_of_ble_eq_true rfl, Nat.le_of_ble_eq_true rfl⟩ rfl rfl ⟨Nat.le_of_ble_eq_true rfl, Nat.le_of_ble_eq_true rfl⟩ (Nat.le_of_ble_eq_true rfl) rfl ?_
          refine g_imul C (pc := 77) dX3_taken_77 ?_
          refine g_sipush C (pc := 78) (v := 2039) dX3_taken_78 (by decide) ?_
          refine g_irem C (pc := 81) dX3_taken_81 (by decide) ?_
          refine g_icmp_ne C (pc := 82) (tgt := 89) dX3_taken_82 (by decide) (fun c_82 => ?_) (fun c_82 => ?_)
          · skip
            have c_82 : ¬ ((four s) : Int32) = (jrem (r * (pwr (four ((S.2.1 22) ((k).toNatClampNeg))) 2039 (chal r ((S.2.1 50) ((t).toNatClampNeg))).toNatClampNeg)) 2039) := c_82
            refine g_iconst C (pc := 89) (v := 0) dX3_taken_89 (by decide) ?_
            exact g_iretD C R dX3_taken_90 (Nat.le_refl _) (Nat.le_refl _) (by unfold m_taken; first | (rw [if_neg (by grind)]; first | (rw [if_pos c_82]; done) | (rw [if_neg c_82]; done)) | (rw [if_pos (by grind)])) (congrArg (fun z => wd K z h) (rfl)) rfl
          · skip
            have c_82 : ((four s) : Int32) = (jrem (r * (pwr (four ((S.2.1 22) ((k).toNatClampNeg))) 2039 (chal r ((S.2.1 50) ((t).toNatClampNeg))).toNatClampNeg)) 2039) := c_82
            refine g_iconst C (pc := 85) (v := 1) dX3_taken_85 (by decide) ?_
            refine g_goto C (pc := 86) (tgt := 90) dX3_taken_86 (by decide) ?_
            exact g_iretD C R dX3_taken_90 (Nat.le_refl _) (Nat.le_refl _) (by unfold m_taken; first | (rw [if_neg (by grind)]; first | (rw [if_pos c_82]; done) | (rw [if_neg c_82]; done)) | (rw [if_pos (by grind)])) (congrArg (fun z => wd K z h) (rfl)) rfl
        · skip
          have c_41 : ¬ (isIn s 0 1018) := p2i_0.mp c_41
          refine g_iconst C (pc := 44) (v := (-1)) dX3_taken_44 (by decide) ?_
          exact g_iretD C R dX3_taken_45 (Nat.le_refl _) (Nat.le_refl _) (by unfold m_taken; first | (rw [if_neg (by grind)]; first | (rw [if_pos c_82]; done) | (rw [if_neg c_82]; done)) | (rw [if_pos (by grind)])) (congrArg (fun z => wd K z h) (rfl)) rfl
theorem ds_X3_taken : yX3_taken.cls ≠ "java/lang/invoke/MethodHandle" ∧ yX3_taken.cls ≠ "java/lang/invoke/VarHandle" ∧ (parseMethodDescriptor yX3_taken.desc).map (fun d => d.parameters.length) = some 4 := by decide +kernel
set_option maxHeartbeats 4000000 in
set_option maxRecDepth 100000 in
theorem c_X3_burn (l : Launch) (D : gD) (B : Nat × Nat) (K : KS) (S : MS) (h : gHp) (n : Nat) (k : Int32) (q : Int32) (hS : MOK S) : Con l yX3_burn (ws_ yX3_burn cX3_burn 3 (some .boolean)) ({ frames := 2, cells := 0, slots := 0, locals := 42 }) D B [.ref 20, .int k, .int q] (wd K S h) n (gdt (some (.int (b2i (m_burn S k q).2))) (wd K ((m_burn S k q).1) h) n) 0 0 := by
  have b12 := hS.c12.2
  have b13 := hS.c13.2
  have b14 := hS.c14.2
  have b16 := hS.c16.2
  have b29 := hS.c29.2
  have b30 := hS.c30.2
  have b31 := hS.c31.2
  have b48 := hS.c48.2
  have b49 := hS.c49.2
  have b50 := hS.c50.2
  have b51 := hS.c51.2
  have b77 := hS.c77.2
  have b78 := hS.c78.2
  have b79 := hS.c79.2
  have b82 := hS.c82.2
  refine Con.begin [some (.ref 20), some (.int k), some (.int q)] rfl rfl (Nat.le_of_ble_eq_true rfl) rfl rfl (fun X C R => ?_)
  refine g_aload_n C (pc := 0) dX3_burn_0 rfl rfl ?_
  refine g_iconst C (pc := 1) (v := 0) dX3_burn_1 (by decide) ?_
  refine m_puti C 0 (pc := 2) dX3_burn_2 rfl q1193 rfl rfl rfl ?_
  refine g_aload_n C (pc := 5) dX3_burn_5 rfl rfl ?_
  refine m_geti C 78 (pc := 6) (v := nI (mN S 78)) dX3_burn_6 rfl q1271 rfl hS.c78.1 ?_
  refine g_bipush C (pc := 9) (v := 60) dX3_burn_9 (by decide) ?_
  refine g_icmp_eq C (pc := 11) (tgt := 29) dX3_burn_11 (by decide) (fun c_11 => ?_) (fun c_11 => ?_)
  · skip
    have c_11 : (mN S 78) = 60 := (nI_eq (a := (mN S 78)) (b := 60) (by omega) (by omega)).mp c_11
    refine g_iconst C (pc := 29) (v := 0) dX3_burn_29 (by decide) ?_
    exact g_zretD C (b2i_nb _) R dX3_burn_30 (Nat.le_refl _) (Nat.le_refl _) (by unfold m_burn; first | (rw [if_pos (by  grind)] <;> first | rfl | (simp [mN_sI_ne, sI_2, p2i, b2i, *]; done) | grind) | (rw [if_neg (by  grind)] <;> first | rfl | (simp [mN_sI_ne, sI_2, p2i, b2i, *]; done) | grind)) (congrArg (fun z => wd K z h) (by unfold m_burn; first | (rw [if_pos (by  grind)] <;> first | rfl | (simp [mN_sI_ne, sI_2, p2i, b2i, *]; done) | grind) | (rw [if_neg (by  grind)] <;> first | rfl | (simp [mN_sI_ne, sI_2, p2i, b2i, *]; done) | grind))) rfl
  · skip
    have c_11 : ¬ (mN S 78) = 60 := fun q => c_11 ((nI_eq (a := (mN S 78)) (b := 60) (by omega) (by omega)).mpr q)
    refine g_aload_n C (pc := 14) dX3_burn_14 rfl rfl ?_
    refine g_iload_n C (pc := 15) dX3_burn_15 rfl ?_
    refine g_callVD C (pc := 16) [.int k] [] dX3_burn_16 (c_X3_isKey l D B K (sI S 0 0) h n k ) (lw_V q1492 q1494 qs38 q87 q1495) (wd_20 _ _ _) rfl rfl ds_X3_isKey ⟨rfl, rfl⟩ ⟨Nat.le_of_ble_eq_true rfl, Nat.le_of_ble_eq_true rfl⟩ rfl rfl ⟨Nat.le_of_ble_eq_true rfl, Nat.le_of_ble_eq_true rfl⟩ (Nat.le_of_ble_eq_true rfl) rfl ?_
    refine g_if_eq C (pc := 19) (tgt := 29) dX3_burn_19 (by decide) (fun c_19 => ?_) (fun c_19 => ?_)
    · skip
      have c_19 : ¬ (isKey S k) := p2i_0.mp c_19
      refine g_iconst C (pc := 29) (v := 0) dX3_burn_29 (by decide) ?_
      exact g_zretD C (b2i_nb _) R dX3_burn_30 (Nat.le_refl _) (Nat.le_refl _) (by unfold m_burn; first | (rw [if_pos (by  grind)] <;> first | rfl | (simp [mN_sI_ne, sI_2, p2i, b2i, *]; done) | grind) | (rw [if_neg (by  grind)] <;> first | rfl | (simp [mN_sI_ne, sI_2, p2i, b2i, *]; done) | grind)) (congrArg (fun z => wd K z h) (by unfold m_burn; first | (rw [if_pos (by  grind)] <;> first | rfl | (simp [mN_sI_ne, sI_2, p2i, b2i, *]; done) | grind) | (rw [if_neg (by  grind)] <;> first | rfl | (simp [mN_sI_ne, sI_2, p2i, b2i, *]; done) | grind))) rfl
    · skip
      have c_19 : (isKey S k) := p2i_n0.mp c_19
      refine g_iload_n C (pc := 22) dX3_burn_22 rfl ?_
      refine g_callSD C (pc := 23) [.int q] [] dX3_burn_23 (c_X3_isDay l D B (wd K (sI S 0 0) h) n q ) (lw_S q1725 q1726 q87 q1727) ds_X3_isDay ⟨rfl, rfl⟩ ⟨Nat.le_of_ble_eq_true rfl, Nat.le_of_ble_eq_true rfl⟩ rfl rfl ⟨Nat.le_of_ble_eq_true rfl, Nat.le_of_ble_eq_true rfl⟩ (Nat.le_of_ble_eq_true rfl) rfl ?_
      refine g_if_ne C (pc := 26) (tgt := 31) dX3_burn_26 (by decide) (fun c_26 => ?_) (fun c_26 => ?_)
      · skip
        have c_26 : (isIn q 0 2000) := p2i_n0.mp c_26
        refine g_aload_n C (pc := 31) dX3_burn_31 rfl rfl ?_
        refine m_geta C 69 66 (pc := 32) dX3_burn_32 (by decide) (fun _ => rfl) q1262 rfl ?_
        refine g_aload_n C (pc := 35) dX3_burn_35 rfl rfl ?_
        refine m_geti C 78 (pc := 36) (v := nI (mN S 78)) dX3_burn_36 rfl q1271 rfl hS.c78.1 ?_
        refine g_iload_n C (pc := 39) dX3_burn_39 rfl ?_
        refine m_iast C (pc := 40) (j := (mN S 78)) dX3_burn_40 (by decide) rfl (vp_in_nI (by omega) (by decide)) (nI_clamp (by omega)) ?_
        refine g_aload_n C (pc := 41) dX3_burn_41 rfl rfl ?_
        refine m_geta C 70 67 (pc := 42) dX3_burn_42 (by decide) (fun _ => rfl) q1263 rfl ?_
        refine g_aload_n C (pc := 45) dX3_burn_45 rfl rfl ?_
        refine m_geti C 78 (pc := 46) (v := nI (mN S 78)) dX3_burn_46 rfl q1271 rfl hS.c78.1 ?_
        refine g_iload_n C (pc := 49) dX3_burn_49 rfl ?_
        refine m_iast C (pc := 50) (j := (mN S 78)) dX3_burn_50 (by decide) rfl (vp_in_nI (by omega) (by decide)) (nI_clamp (by omega)) ?_
        refine g_aload_n C (pc := 51) dX3_burn_51 rfl rfl ?_
        refine m_geta C 71 68 (pc := 52) dX3_burn_52 (by decide) (fun _ => rfl) q1264 rfl ?_
        refine g_aload_n C (pc := 55) dX3_burn_55 rfl rfl ?_
        refine m_geti C 78 (pc := 56) (v := nI (mN S 78)) dX3_burn_56 rfl q1271 rfl hS.c78.1 ?_
        refine g_aload_n C (pc := 59) dX3_burn_59 rfl rfl ?_
        refine m_geti C 1 (pc := 60) (v := S.1 1) dX3_burn_60 rfl q1194 rfl rfl ?_
        refine m_iast C (pc := 63) (j := (mN S 78)) dX3_burn_63 (by decide) rfl (vp_in_nI (by omega) (by decide)) (nI_clamp (by omega)) ?_
        refine g_aload_n C (pc := 64) dX3_burn_64 rfl rfl ?_
        refine g_dup C (pc := 65) dX3_burn_65 rfl ?_
        refine m_geti C 78 (pc := 66) (v := nI (mN S 78)) dX3_burn_66 rfl q1271 rfl hS.c78.1 ?_
        refine g_iconst C (pc := 69) (v := 1) dX3_burn_69 (by decide) ?_
        refine g_iadd C (pc := 70) dX3_burn_70 ?_
        refine G.topc (nI_1 _) ?_
        refine m_puti C 78 (pc := 71) dX3_burn_71 rfl q1271 rfl rfl rfl ?_
        refine g_iconst C (pc := 74) (v := 1) dX3_burn_74 (by decide) ?_
        exact g_zretD C (b2i_nb _) R dX3_burn_75 (Nat.le_refl _) (Nat.le_refl _) (by unfold m_burn; first | (rw [if_pos (by  grind)] <;> first | rfl | (simp [mN_sI_ne, sI_2, p2i, b2i, *]; done) | grind) | (rw [if_neg (by  grind)] <;> first | rfl | (simp [mN_sI_ne, sI_2, p2i, b2i, *]; done) | grind)) (congrArg (fun z => wd K z h) (by unfold m_burn; first | (rw [if_pos (by  grind)] <;> first | rfl | (simp [mN_sI_ne, sI_2, p2i, b2i, *]; done) | grind) | (rw [if_neg (by  grind)] <;> first | rfl | (simp [mN_sI_ne, sI_2, p2i, b2i, *]; done) | grind))) rfl
      · skip
        have c_26 : ¬ (isIn q 0 2000) := p2i_0.mp c_26
        refine g_iconst C (pc := 29) (v := 0) dX3_burn_29 (by decide) ?_
        exact g_zretD C (b2i_nb _) R dX3_burn_30 (Nat.le_refl _) (Nat.le_refl _) (by unfold m_burn; first | (rw [if_pos (by  grind)] <;> first | rfl | (simp [mN_sI_ne, sI_2, p2i, b2i, *]; done) | grind) | (rw [if_neg (by  grind)] <;> first | rfl | (simp [mN_sI_ne, sI_2, p2i, b2i, *]; done) | grind)) (congrArg (fun z => wd K z h) (by unfold m_burn; first | (rw [if_pos (by  grind)] <;> first | rfl | (simp [mN_sI_ne, sI_2, p2i, b2i, *]; done) | grind) | (rw [if_neg (by  grind)] <;> first | rfl | (simp [mN_sI_ne, sI_2, p2i, b2i, *]; done) | grind))) rfl
theorem ds_X3_burn : yX3_burn.cls ≠ "java/lang/invoke/MethodHandle" ∧ yX3_burn.cls ≠ "java/lang/invoke/VarHandle" ∧ (parseMethodDescriptor yX3_burn.desc).map (fun d => d.parameters.length) = some 2 := by decide +kernel
set_option maxHeartbeats 4000000 in
set_option maxRecDepth 100000 in
theorem c_X3_old (l : Launch) (D : gD) (B : Nat × Nat) (K : KS) (S : MS) (h : gHp) (n : Nat) (k : Int32) (hS : MOK S) : Con l yX3_old (ws_ yX3_old cX3_old 2 (some .boolean)) ({ frames := 1, cells := 0, slots := 0, locals := 21 }) D B [.ref 20, .int k] (wd K S h) n (gdt (some (.int (b2i (m_old S k).2))) (wd K ((m_old S k).1) h) n) 0 0 := by
  have b12 := hS.c12.2
  have b13 := hS.c13.2
  have b14 := hS.c14.2
  have b16 := hS.c16.2
  have b29 := hS.c29.2
  have b30 := hS.c30.2
  have b31 := hS.c31.2
  have b48 := hS.c48.2
  have b49 := hS.c49.2
  have b50 := hS.c50.2
  have b51 := hS.c51.2
  have b77 := hS.c77.2
  have b78 := hS.c78.2
  have b79 := hS.c79.2
  have b82 := hS.c82.2
  refine Con.begin [some (.ref 20), some (.int k)] rfl rfl (Nat.le_of_ble_eq_true rfl) rfl rfl (fun X C R => ?_)
  refine g_aload_n C (pc := 0) dX3_old_0 rfl rfl ?_
  refine g_iconst C (pc := 1) (v := 0) dX3_old_1 (by decide) ?_
  refine m_puti C 0 (pc := 2) dX3_old_2 rfl q1193 rfl rfl rfl ?_
  refine g_aload_n C (pc := 5) dX3_old_5 rfl rfl ?_
  refine g_iload_n C (pc := 6) dX3_old_6 rfl ?_
  refine g_callVD C (pc := 7) [.int k] [] dX3_old_7 (c_X3_isKey l D B K (sI S 0 0) h n k ) (lw_V q1492 q1494 qs38 q87 q1495) (wd_20 _ _ _) rfl rfl ds_X3_isKey ⟨rfl, rfl⟩ ⟨Nat.le_of_ble_eq_true rfl, Nat.le_of_ble_eq_true rfl⟩ rfl rfl ⟨Nat.le_of_ble_eq_true rfl, Nat.le_of_ble_eq_true rfl⟩ (Nat.le_of_ble_eq_true rfl) rfl ?_
  refine g_if_eq C (pc := 10) (tgt := 23) dX3_old_10 (by decide) (fun c_10 => ?_) (fun c_10 => ?_)
  · skip
    have c_10 : ¬ (isKey S k) := p2i_0.mp c_10
    refine g_iconst C (pc := 23) (v := 0) dX3_old_23 (by decide) ?_
    exact g_zretD C (b2i_nb _) R dX3_old_24 (Nat.le_refl _) (Nat.le_refl _) (by unfold m_old; first | (rw [if_pos (by  grind)] <;> first | rfl | (simp [mN_sI_ne, sI_2, p2i, b2i, *]; done) | grind) | (rw [if_neg (by  grind)] <;> first | rfl | (simp [mN_sI_ne, sI_2, p2i, b2i, *]; done) | grind)) (congrArg (fun z => wd K z h) (by unfold m_old; first | (rw [if_pos (by  grind)] <;> first | rfl | (simp [mN_sI_ne, sI_2, p2i, b2i, *]; done) | grind) | (rw [if_neg (by  grind)] <;> first | rfl | (simp [mN_sI_ne, sI_2, p2i, b2i, *]; done) | grind))) rfl
  · skip
    have c_10 : (isKey S k) := p2i_n0.mp c_10
    refine g_aload_n C (pc := 13) dX3_old_13 rfl rfl ?_
    refine m_geta C 6 25 (pc := 14) dX3_old_14 (by decide) (fun _ => rfl) q1199 rfl ?_
    refine g_iload_n C (pc := 17) dX3_old_17 rfl ?_
    refine m_iald C (pc := 18) (v := (S.2.1 25) ((k).toNatClampNeg)) dX3_old_18 (by decide) rfl (isKey.inr hS c_10) rfl ?_
    refine g_iconst C (pc := 19) (v := (-1)) dX3_old_19 (by decide) ?_
    refine g_icmp_eq C (pc := 20) (tgt := 25) dX3_old_20 (by decide) (fun c_20 => ?_) (fun c_20 => ?_)
    · skip
      have c_20 : (((S.2.1 25) ((k).toNatClampNeg)) : Int32) = -1 := c_20
      refine g_aload_n C (pc := 25) dX3_old_25 rfl rfl ?_
      refine m_geta C 6 25 (pc := 26) dX3_old_26 (by decide) (fun _ => rfl) q1199 rfl ?_
      refine g_iload_n C (pc := 29) dX3_old_29 rfl ?_
      refine g_aload_n C (pc := 30) dX3_old_30 rfl rfl ?_
      refine m_geti C 1 (pc := 31) (v := S.1 1) dX3_old_31 rfl q1194 rfl rfl ?_
      refine m_iast C (pc := 34) (j := (k).toNatClampNeg) dX3_old_34 (by decide) rfl (isKey.inr hS c_10) rfl ?_
      refine g_iconst C (pc := 35) (v := 1) dX3_old_35 (by decide) ?_
      exact g_zretD C (b2i_nb _) R dX3_old_36 (Nat.le_refl _) (Nat.le_refl _) (by unfold m_old; first | (rw [if_pos (by  grind)] <;> first | rfl | (simp [mN_sI_ne, sI_2, p2i, b2i, *]; done) | grind) | (rw [if_neg (by  grind)] <;> first | rfl | (simp [mN_sI_ne, sI_2, p2i, b2i, *]; done) | grind)) (congrArg (fun z => wd K z h) (by unfold m_old; first | (rw [if_pos (by  grind)] <;> first | rfl | (simp [mN_sI_ne, sI_2, p2i, b2i, *]; done) | grind) | (rw [if_neg (by  grind)] <;> first | rfl | (simp [mN_sI_ne, sI_2, p2i, b2i, *]; done) | grind))) rfl
    · skip
      have c_20 : ¬ (((S.2.1 25) ((k).toNatClampNeg)) : Int32) = -1 := c_20
      refine g_iconst C (pc := 23) (v := 0) dX3_old_23 (by decide) ?_
      exact g_zretD C (b2i_nb _) R dX3_old_24 (Nat.le_refl _) (Nat.le_refl _) (by unfold m_old; first | (rw [if_pos (by  grind)] <;> first | rfl | (simp [mN_sI_ne, sI_2, p2i, b2i, *]; done) | grind) | (rw [if_neg (by  grind)] <;> first | rfl | (simp [mN_sI_ne, sI_2, p2i, b2i, *]; done) | grind)) (congrArg (fun z => wd K z h) (by unfold m_old; first | (rw [if_pos (by  grind)] <;> first | rfl | (simp [mN_sI_ne, sI_2, p2i, b2i, *]; done) | grind) | (rw [if_neg (by  grind)] <;> first | rfl | (simp [mN_sI_ne, sI_2, p2i, b2i, *]; done) | grind))) rfl
theorem ds_X3_old : yX3_old.cls ≠ "java/lang/invoke/MethodHandle" ∧ yX3_old.cls ≠ "java/lang/invoke/VarHandle" ∧ (parseMethodDescriptor yX3_old.desc).map (fun d => d.parameters.length) = some 1 := by decide +kernel
set_option maxHeartbeats 4000000 in
set_option maxRecDepth 100000 in
theorem c_X3_stands (l : Launch) (D : gD) (B : Nat × Nat) (K : KS) (S : MS) (h : gHp) (n : Nat) (i : Int32) (q : Int32) (hS : MOK S) : Con l yX3_stands (ws_ yX3_stands cX3_stands 6 (some .int)) ({ frames := 2, cells := 0, slots := 0, locals := 43 }) D B [.ref 20, .int i, .int q] (wd K S h) n (gdt (some (.int (m_stands S i q))) (wd K ((sI S 0 0)) h) n) 0 0 := by
  have b12 := hS.c12.2
  have b13 := hS.c13.2
  have b14 := hS.c14.2
  have b16 := hS.c16.2
  have b29 := hS.c29.2
  have b30 := hS.c30.2
  have b31 := hS.c31.2
  have b48 := hS.c48.2
  have b49 := hS.c49.2
  have b50 := hS.c50.2
  have b51 := hS.c51.2
  have b77 := hS.c77.2
  have b78 := hS.c78.2
  have b79 := hS.c79.2
  have b82 := hS.c82.2
  refine Con.begin [some (.ref 20), some (.int i), some (.int q), none, none, none] rfl rfl (Nat.le_of_ble_eq_true rfl) rfl rfl (fun X C R => ?_)
  refine g_aload_n C (pc := 0) dX3_stands_0 rfl rfl ?_
  refine g_iconst C (pc := 1) (v := 0) dX3_stands_1 (by decide) ?_
  refine m_puti C 0 (pc := 2) dX3_stands_2 rfl q1193 rfl rfl rfl ?_
  refine g_iload_n C (pc := 5) dX3_stands_5 rfl ?_
  refine g_iconst C (pc := 6) (v := 0) dX3_stands_6 (by decide) ?_
  refine g_aload_n C (pc := 7) dX3_stands_7 rfl rfl ?_
  refine m_geti C 77 (pc := 8) (v := nI (mN S 77)) dX3_stands_8 rfl q1270 rfl hS.c77.1 ?_
  refine g_iconst C (pc := 11) (v := 1) dX3_stands_11 (by decide) ?_
  refine g_isub C (pc := 12) dX3_stands_12 ?_
  refine g_callSD C (pc := 13) [.int i, .int 0, .int ((nI (mN S 77)) - 1)] [] dX3_stands_13 (c_X3_isIn l D B (wd K (sI S 0 0) h) n i 0 ((nI (mN S 77)) - 1) ) (lw_S q1458 q1459 q87 q1460) ds_X3_isIn ⟨rfl, rfl⟩ ⟨Nat.le_of_ble_eq_true rfl, Nat.le_of_ble_eq_true rfl⟩ rfl rfl ⟨Nat.le_of_ble_eq_true rfl, Nat.le_of_ble_eq_true rfl⟩ (Nat.le_of_ble_eq_true rfl) rfl ?_
  refine g_if_eq C (pc := 16) (tgt := 37) dX3_stands_16 (by decide) (fun c_16 => ?_) (fun c_16 => ?_)
  · skip
    have c_16 : ¬ (isIn i 0 ((nI (mN S 77)) - 1)) := p2i_0.mp c_16
    refine g_iconst C (pc := 37) (v := (-1)) dX3_stands_37 (by decide) ?_
    exact g_iretD C R dX3_stands_38 (Nat.le_refl _) (Nat.le_refl _) (by unfold m_stands; first | (rw [if_neg (by grind)]; first | (rw [if_neg (by grind)]; first | (rw [if_pos (by grind)]; done) | (rw [if_neg (by grind)]; done)) | (rw [if_pos (by grind)]; done)) | (rw [if_pos (by grind)])) (congrArg (fun z => wd K z h) (rfl)) rfl
  · skip
    have c_16 : (isIn i 0 ((nI (mN S 77)) - 1)) := p2i_n0.mp c_16
    refine g_aload_n C (pc := 19) dX3_stands_19 rfl rfl ?_
    refine g_iload_n C (pc := 20) dX3_stands_20 rfl ?_
    refine g_callVD C (pc := 21) [.int q] [] dX3_stands_21 (c_X3_isKnown l D B K (sI S 0 0) h n q ) (lw_V q1607 q1609 qs47 q87 q1610) (wd_20 _ _ _) rfl rfl ds_X3_isKnown ⟨rfl, rfl⟩ ⟨Nat.le_of_ble_eq_true rfl, Nat.le_of_ble_eq_true rfl⟩ rfl rfl ⟨Nat.le_of_ble_eq_true rfl, Nat.le_of_ble_eq_true rfl⟩ (Nat.le_of_ble_eq_true rfl) rfl ?_
    refine g_if_eq C (pc := 24) (tgt := 37) dX3_stands_24 (by decide) (fun c_24 => ?_) (fun c_24 => ?_)
    · skip
      have c_24 : ¬ (isIn q 0 (S.1 1)) := p2i_0.mp c_24
      refine g_iconst C (pc := 37) (v := (-1)) dX3_stands_37 (by decide) ?_
      exact g_iretD C R dX3_stands_38 (Nat.le_refl _) (Nat.le_refl _) (by unfold m_stands; first | (rw [if_neg (by grind)]; first | (rw [if_neg (by grind)]; first | (rw [if_pos (by grind)]; done) | (rw [if_neg (by grind)]; done)) | (rw [if_pos (by grind)]; done)) | (rw [if_pos (by grind)])) (congrArg (fun z => wd K z h) (rfl)) rfl
    · skip
      have c_24 : (isIn q 0 (S.1 1)) := p2i_n0.mp c_24
      refine g_aload_n C (pc := 27) dX3_stands_27 rfl rfl ?_
      refine m_geta C 68 65 (pc := 28) dX3_stands_28 (by decide) (fun _ => rfl) q1261 rfl ?_
      refine g_iload_n C (pc := 31) dX3_stands_31 rfl ?_
      refine m_iald C (pc := 32) (v := (S.2.1 65) ((i).toNatClampNeg)) dX3_stands_32 (by decide) rfl (isIn_in b77 (by decide) c_16) rfl ?_
      refine g_iload_n C (pc := 33) dX3_stands_33 rfl ?_
      refine g_icmp_le C (pc := 34) (tgt := 39) dX3_stands_34 (by decide) (fun c_34 => ?_) (fun c_34 => ?_)
      · skip
        have c_34 : ¬ ((q) : Int32) < ((S.2.1 65) ((i).toNatClampNeg)) := c_34
        refine g_aload_n C (pc := 39) dX3_stands_39 rfl rfl ?_
        refine m_geta C 68 65 (pc := 40) dX3_stands_40 (by decide) (fun _ => rfl) q1261 rfl ?_
        refine g_iload_n C (pc := 43) dX3_stands_43 rfl ?_
        refine m_iald C (pc := 44) (v := (S.2.1 65) ((i).toNatClampNeg)) dX3_stands_44 (by decide) rfl (isIn_in b77 (by decide) c_16) rfl ?_
        refine g_istore_n C (pc := 45) (L' := [some (.ref 20), some (.int i), some (.int q), some (.int ((S.2.1 65) ((i).toNatClampNeg))), none, none]) dX3_stands_45 (by decide) rfl rfl ?_
        refine g_aload_n C (pc := 46) dX3_stands_46 rfl rfl ?_
        refine g_aload_n C (pc := 47) dX3_stands_47 rfl rfl ?_
        refine m_geta C 66 63 (pc := 48) dX3_stands_48 (by decide) (fun _ => rfl) q1259 rfl ?_
        refine g_iload_n C (pc := 51) dX3_stands_51 rfl ?_
        refine m_iald C (pc := 52) (v := (S.2.1 63) ((i).toNatClampNeg)) dX3_stands_52 (by decide) rfl (isIn_in b77 (by decide) c_16) rfl ?_
        refine g_iload_n C (pc := 53) dX3_stands_53 rfl ?_
        refine g_callVD C (pc := 54) [.int ((S.2.1 63) ((i).toNatClampNeg)), .int q] [] dX3_stands_54 (c_X3_burntFrom l D B K (sI S 0 0) h n ((S.2.1 63) ((i).toNatClampNeg)) q (hS.setI 0 rfl)) (lw_V q1756 q1758 qs72 q87 q1759) (wd_20 _ _ _) rfl rfl ds_X3_burntFrom ⟨rfl, rfl⟩ ⟨Nat.le_of_ble_eq_true rfl, Nat.le_of_ble_eq_true rfl⟩ rfl rfl ⟨Nat.le_of_ble_eq_true rfl, Nat.le_of_ble_eq_true rfl⟩ (Nat.le_of_ble_eq_true rfl) rfl ?_
        refine g_istore C (pc := 57) (L' := [some (.ref 20), some (.int i), some (.int q), some (.int ((S.2.1 65) ((i).toNatClampNeg))), some (.int (burntS S ((S.2.1 63) ((i).toNatClampNeg)) q)), none]) dX3_stands_57 (by decide) rfl rfl ?_
        refine g_iload C (pc := 59) dX3_stands_59 rfl ?_
        refine g_iconst C (pc := 61) (v := (-1)) dX3_stands_61 (by decide) ?_
        refine g_icmp_eq C (pc := 62) (tgt := 71) dX3_stands_62 (by decide) (fun c_62 => ?_) (fun c_62 => ?_)
        · skip
          have c_62 : ((burntS S ((S.2.1 63) ((i).toNatClampNeg)) q) : Int32) = -1 := c_62
          refine g_iconst C (pc := 71) (v := 1) dX3_stands_71 (by decide) ?_
          exact g_iretD C R dX3_stands_72 (Nat.le_refl _) (Nat.le_refl _) (by unfold m_stands; first | (rw [if_neg (by grind)]; first | (rw [if_neg (by grind)]; first | (rw [if_pos (by grind)]; done) | (rw [if_neg (by grind)]; done)) | (rw [if_pos (by grind)]; done)) | (rw [if_pos (by grind)])) (congrArg (fun z => wd K z h) (rfl)) rfl
        · skip
          have c_62 : ¬ ((burntS S ((S.2.1 63) ((i).toNatClampNeg)) q) : Int32) = -1 := c_62
          refine g_iload C (pc := 65) dX3_stands_65 rfl ?_
          refine g_iload_n C (pc := 67) dX3_stands_67 rfl ?_
          refine g_icmp_le C (pc := 68) (tgt := 73) dX3_stands_68 (by decide) (fun c_68 => ?_) (fun c_68 => ?_)
          · skip
            have c_68 : ¬ (((S.2.1 65) ((i).toNatClampNeg)) : Int32) < (burntS S ((S.2.1 63) ((i).toNatClampNeg)) q) := c_68
            refine g_aload_n C (pc := 73) dX3_stands_73 rfl rfl ?_
            refine g_aload_n C (pc := 74) dX3_stands_74 rfl rfl ?_
            refine m_geta C 66 63 (pc := 75) dX3_stands_75 (by decide) (fun _ => rfl) q1259 rfl ?_
            refine g_iload_n C (pc := 78) dX3_stands_78 rfl ?_
            refine m_iald C (pc := 79) (v := (S.2.1 63) ((i).toNatClampNeg)) dX3_stands_79 (by decide) rfl (isIn_in b77 (by decide) c_16) rfl ?_
            refine g_iload_n C (pc := 80) dX3_stands_80 rfl ?_
            refine g_callVD C (pc := 81) [.int ((S.2.1 63) ((i).toNatClampNeg)), .int ((S.2.1 65) ((i).toNatClampNeg))] [] dX3_stands_81 (c_X3_burntFrom l D B K (sI S 0 0) h n ((S.2.1 63) ((i).toNatClampNeg)) ((S.2.1 65) ((i).toNatClampNeg)) (hS.setI 0 rfl)) (lw_V q1756 q1758 qs72 q87 q1759) (wd_20 _ _ _) rfl rfl ds_X3_burntFrom ⟨rfl, rfl⟩ ⟨Nat.le_of_ble_eq_true rfl, Nat.le_of_ble_eq_true rfl⟩ rfl rfl ⟨Nat.le_of_ble_eq_true rfl, Nat.le_of_ble_eq_true rfl⟩ (Nat.le_of_ble_eq_true rfl) rfl ?_
            refine g_istore C (pc := 84) (L' := [some (.ref 20), some (.int i), some (.int q), some (.int ((S.2.1 65) ((i).toNatClampNeg))), some (.int (burntS S ((S.2.1 63) ((i).toNatClampNeg)) q)), some (.int (burntS S ((S.2.1 63) ((i).toNatClampNeg)) ((S.2.1 65) ((i).toNatClampNeg))))]) dX3_stands_84 (by decide) rfl rfl ?_
            refine g_iload C (pc := 86) dX3_stands_86 rfl ?_
            refine g_iconst C (pc := 88) (v := (-1)) dX3_stands_88 (by decide) ?_
            refine g_icmp_eq C (pc := 89) (tgt := 102) dX3_stands_89 (by decide) (fun c_89 => ?_) (fun c_89 => ?_)
            · skip
              have c_89 : ((burntS S ((S.2.1 63) ((i).toNatClampNeg)) ((S.2.1 65) ((i).toNatClampNeg))) : Int32) = -1 := c_89
              refine g_iconst C (pc := 102) (v := 2) dX3_stands_102 (by decide) ?_
              exact g_iretD C R dX3_stands_103 (Nat.le_refl _) (Nat.le_refl _) (by unfold m_stands; first | (rw [if_neg (by grind)]; first | (rw [if_neg (by grind)]; first | (rw [if_pos (by grind)]; done) | (rw [if_neg (by grind)]; done)) | (rw [if_pos (by grind)]; done)) | (rw [if_pos (by grind)])) (congrArg (fun z => wd K z h) (rfl)) rfl
            · skip
              have c_89 : ¬ ((burntS S ((S.2.1 63) ((i).toNatClampNeg)) ((S.2.1 65) ((i).toNatClampNeg))) : Int32) = -1 := c_89
              refine g_iload C (pc := 92) dX3_stands_92 rfl ?_
              refine g_iload_n C (pc := 94) dX3_stands_94 rfl ?_
              refine g_icmp_gt C (pc := 95) (tgt := 102) dX3_stands_95 (by decide) (fun c_95 => ?_) (fun c_95 => ?_)
              · skip
                have c_95 : (((S.2.1 65) ((i).toNatClampNeg)) : Int32) < (burntS S ((S.2.1 63) ((i).toNatClampNeg)) ((S.2.1 65) ((i).toNatClampNeg))) := c_95
                refine g_iconst C (pc := 102) (v := 2) dX3_stands_102 (by decide) ?_
                exact g_iretD C R dX3_stands_103 (Nat.le_refl _) (Nat.le_refl _) (by unfold m_stands; first | (rw [if_neg (by grind)]; first | (rw [if_neg (by grind)]; first | (rw [if_pos (by grind)]; done) | (rw [if_neg (by grind)]; done)) | (rw [if_pos (by grind)]; done)) | (rw [if_pos (by grind)])) (congrArg (fun z => wd K z h) (rfl)) rfl
              · skip
                have c_95 : ¬ (((S.2.1 65) ((i).toNatClampNeg)) : Int32) < (burntS S ((S.2.1 63) ((i).toNatClampNeg)) ((S.2.1 65) ((i).toNatClampNeg))) := c_95
                refine g_iconst C (pc := 98) (v := 3) dX3_stands_98 (by decide) ?_
                refine g_goto C (pc := 99) (tgt := 103) dX3_stands_99 (by decide) ?_
                exact g_iretD C R dX3_stands_103 (Nat.le_refl _) (Nat.le_refl _) (by unfold m_stands; first | (rw [if_neg (by grind)]; first | (rw [if_neg (by grind)]; first | (rw [if_pos (by grind)]; done) | (rw [if_neg (by grind)]; done)) | (rw [if_pos (by grind)]; done)) | (rw [if_pos (by grind)])) (congrArg (fun z => wd K z h) (rfl)) rfl
          · skip
            have c_68 : (((S.2.1 65) ((i).toNatClampNeg)) : Int32) < (burntS S ((S.2.1 63) ((i).toNatClampNeg)) q) := c_68
            refine g_iconst C (pc := 71) (v := 1) dX3_stands_71 (by decide) ?_
            exact g_iretD C R dX3_stands_72 (Nat.le_refl _) (Nat.le_refl _) (by unfold m_stands; first | (rw [if_neg (by grind)]; first | (rw [if_neg (by grind)]; first | (rw [if_pos (by grind)]; done) | (rw [if_neg (by grind)]; done)) | (rw [if_pos (by grind)]; done)) | (rw [if_pos (by grind)])) (congrArg (fun z => wd K z h) (rfl)) rfl
      · skip
        have c_34 : ((q) : Int32) < ((S.2.1 65) ((i).toNatClampNeg)) := c_34
        refine g_iconst C (pc := 37) (v := (-1)) dX3_stands_37 (by decide) ?_
        exact g_iretD C R dX3_stands_38 (Nat.le_refl _) (Nat.le_refl _) (by unfold m_stands; first | (rw [if_neg (by grind)]; first | (rw [if_neg (by grind)]; first | (rw [if_pos (by grind)]; done) | (rw [if_neg (by grind)]; done)) | (rw [if_pos (by grind)]; done)) | (rw [if_pos (by grind)])) (congrArg (fun z => wd K z h) (rfl)) rfl
theorem ds_X3_stands : yX3_stands.cls ≠ "java/lang/invoke/MethodHandle" ∧ yX3_stands.cls ≠ "java/lang/invoke/VarHandle" ∧ (parseMethodDescriptor yX3_stands.desc).map (fun d => d.parameters.length) = some 2 := by decide +kernel
set_option maxHeartbeats 4000000 in
set_option maxRecDepth 100000 in
theorem c_X3_lend (l : Launch) (D : gD) (B : Nat × Nat) (K : KS) (S : MS) (h : gHp) (n : Nat) (k : Int32) (a : Int32) (to : Int32) (u : Int32) (t : Int32) (hS : MOK S) : Con l yX3_lend (ws_ yX3_lend cX3_lend 6 (some .int)) ({ frames := 1, cells := 0, slots := 0, locals := 22 }) D B [.ref 20, .int k, .int a, .int to, .int u, .int t] (wd K S h) n (gdt (some (.int ((m_lend S k a to u t).2))) (wd K ((m_lend S k a to u t).1) h) n) 0 0 := by
  have b12 := hS.c12.2
  have b13 := hS.c13.2
  have b14 := hS.c14.2
  have b16 := hS.c16.2
  have b29 := hS.c29.2
  have b30 := hS.c30.2
  have b31 := hS.c31.2
  have b48 := hS.c48.2
  have b49 := hS.c49.2
  have b50 := hS.c50.2
  have b51 := hS.c51.2
  have b77 := hS.c77.2
  have b78 := hS.c78.2
  have b79 := hS.c79.2
  have b82 := hS.c82.2
  refine Con.begin [some (.ref 20), some (.int k), some (.int a), some (.int to), some (.int u), some (.int t)] rfl rfl (Nat.le_of_ble_eq_true rfl) rfl rfl (fun X C R => ?_)
  refine g_aload_n C (pc := 0) dX3_lend_0 rfl rfl ?_
  refine g_iconst C (pc := 1) (v := 0) dX3_lend_1 (by decide) ?_
  refine m_puti C 0 (pc := 2) dX3_lend_2 rfl q1193 rfl rfl rfl ?_
  refine g_aload_n C (pc := 5) dX3_lend_5 rfl rfl ?_
  refine m_geti C 79 (pc := 6) (v := nI (mN S 79)) dX3_lend_6 rfl q1272 rfl hS.c79.1 ?_
  refine g_bipush C (pc := 9) (v := 40) dX3_lend_9 (by decide) ?_
  refine g_icmp_eq C (pc := 11) (tgt := 70) dX3_lend_11 (by decide) (fun c_11 => ?_) (fun c_11 => ?_)
  · skip
    have c_11 : (mN S 79) = 40 := (nI_eq (a := (mN S 79)) (b := 40) (by omega) (by omega)).mp c_11
    refine g_iconst C (pc := 70) (v := (-1)) dX3_lend_70 (by decide) ?_
    exact g_iretD C R dX3_lend_71 (Nat.le_refl _) (Nat.le_refl _) (by unfold m_lend; first | (rw [if_pos (by  grind)] <;> first | rfl | (simp [mN_sI_ne, sI_2, p2i, b2i, *]; done) | grind) | (rw [if_neg (by  grind)] <;> first | rfl | (simp [mN_sI_ne, sI_2, p2i, b2i, *]; done) | grind)) (congrArg (fun z => wd K z h) (by unfold m_lend; first | (rw [if_pos (by  grind)] <;> first | rfl | (simp [mN_sI_ne, sI_2, p2i, b2i, *]; done) | grind) | (rw [if_neg (by  grind)] <;> first | rfl | (simp [mN_sI_ne, sI_2, p2i, b2i, *]; done) | grind))) rfl
  · skip
    have c_11 : ¬ (mN S 79) = 40 := fun q => c_11 ((nI_eq (a := (mN S 79)) (b := 40) (by omega) (by omega)).mpr q)
    refine g_aload_n C (pc := 14) dX3_lend_14 rfl rfl ?_
    refine g_iload_n C (pc := 15) dX3_lend_15 rfl ?_
    refine g_callVD C (pc := 16) [.int k] [] dX3_lend_16 (c_X3_isKey l D B K (sI S 0 0) h n k ) (lw_V q1492 q1494 qs38 q87 q1495) (wd_20 _ _ _) rfl rfl ds_X3_isKey ⟨rfl, rfl⟩ ⟨Nat.le_of_ble_eq_true rfl, Nat.le_of_ble_eq_true rfl⟩ rfl rfl ⟨Nat.le_of_ble_eq_true rfl, Nat.le_of_ble_eq_true rfl⟩ (Nat.le_of_ble_eq_true rfl) rfl ?_
    refine g_if_eq C (pc := 19) (tgt := 70) dX3_lend_19 (by decide) (fun c_19 => ?_) (fun c_19 => ?_)
    · skip
      have c_19 : ¬ (isKey S k) := p2i_0.mp c_19
      refine g_iconst C (pc := 70) (v := (-1)) dX3_lend_70 (by decide) ?_
      exact g_iretD C R dX3_lend_71 (Nat.le_refl _) (Nat.le_refl _) (by unfold m_lend; first | (rw [if_pos (by  grind)] <;> first | rfl | (simp [mN_sI_ne, sI_2, p2i, b2i, *]; done) | grind) | (rw [if_neg (by  grind)] <;> first | rfl | (simp [mN_sI_ne, sI_2, p2i, b2i, *]; done) | grind)) (congrArg (fun z => wd K z h) (by unfold m_lend; first | (rw [if_pos (by  grind)] <;> first | rfl | (simp [mN_sI_ne, sI_2, p2i, b2i, *]; done) | grind) | (rw [if_neg (by  grind)] <;> first | rfl | (simp [mN_sI_ne, sI_2, p2i, b2i, *]; done) | grind))) rfl
    · skip
      have c_19 : (isKey S k) := p2i_n0.mp c_19
      refine g_aload_n C (pc := 22) dX3_lend_22 rfl rfl ?_
      refine g_iload_n C (pc := 23) dX3_lend_23 rfl ?_
      refine g_callVD C (pc := 24) [.int a] [] dX3_lend_24 (c_X3_isHolder l D B K (sI S 0 0) h n a ) (lw_V q1514 q1516 qs40 q87 q1517) (wd_20 _ _ _) rfl rfl ds_X3_isHolder ⟨rfl, rfl⟩ ⟨Nat.le_of_ble_eq_true rfl, Nat.le_of_ble_eq_true rfl⟩ rfl rfl ⟨Nat.le_of_ble_eq_true rfl, Nat.le_of_ble_eq_true rfl⟩ (Nat.le_of_ble_eq_true rfl) rfl ?_
      refine g_if_eq C (pc := 27) (tgt := 70) dX3_lend_27 (by decide) (fun c_27 => ?_) (fun c_27 => ?_)
      · skip
        have c_27 : ¬ (isHolder S a) := p2i_0.mp c_27
        refine g_iconst C (pc := 70) (v := (-1)) dX3_lend_70 (by decide) ?_
        exact g_iretD C R dX3_lend_71 (Nat.le_refl _) (Nat.le_refl _) (by unfold m_lend; first | (rw [if_pos (by  grind)] <;> first | rfl | (simp [mN_sI_ne, sI_2, p2i, b2i, *]; done) | grind) | (rw [if_neg (by  grind)] <;> first | rfl | (simp [mN_sI_ne, sI_2, p2i, b2i, *]; done) | grind)) (congrArg (fun z => wd K z h) (by unfold m_lend; first | (rw [if_pos (by  grind)] <;> first | rfl | (simp [mN_sI_ne, sI_2, p2i, b2i, *]; done) | grind) | (rw [if_neg (by  grind)] <;> first | rfl | (simp [mN_sI_ne, sI_2, p2i, b2i, *]; done) | grind))) rfl
      · skip
        have c_27 : (isHolder S a) := p2i_n0.mp c_27
        refine g_iload_n C (pc := 30) dX3_lend_30 rfl ?_
        refine g_aload_n C (pc := 31) dX3_lend_31 rfl rfl ?_
        refine m_geti C 1 (pc := 32) (v := S.1 1) dX3_lend_32 rfl q1194 rfl rfl ?_
        refine g_sipush C (pc := 35) (v := 2000) dX3_lend_35 (by decide) ?_
        refine g_callSD C (pc := 38) [.int to, .int (S.1 1), .int 2000] [] dX3_lend_38 (c_X3_isIn l D B (wd K (sI S 0 0) h) n to (S.1 1) 2000 ) (lw_S q1458 q1459 q87 q1460) ds_X3_isIn ⟨rfl, rfl⟩ ⟨Nat.le_of_ble_eq_true rfl, Nat.le_of_ble_eq_true rfl⟩ rfl rfl ⟨Nat.le_of_ble_eq_true rfl, Nat.le_of_ble_eq_true rfl⟩ (Nat.le_of_ble_eq_true rfl) rfl ?_
        refine g_if_eq C (pc := 41) (tgt := 70) dX3_lend_41 (by decide) (fun c_41 => ?_) (fun c_41 => ?_)
        · skip
          have c_41 : ¬ (isIn to (S.1 1) 2000) := p2i_0.mp c_41
          refine g_iconst C (pc := 70) (v := (-1)) dX3_lend_70 (by decide) ?_
          exact g_iretD C R dX3_lend_71 (Nat.le_refl _) (Nat.le_refl _) (by unfold m_lend; first | (rw [if_pos (by  grind)] <;> first | rfl | (simp [mN_sI_ne, sI_2, p2i, b2i, *]; done) | grind) | (rw [if_neg (by  grind)] <;> first | rfl | (simp [mN_sI_ne, sI_2, p2i, b2i, *]; done) | grind)) (congrArg (fun z => wd K z h) (by unfold m_lend; first | (rw [if_pos (by  grind)] <;> first | rfl | (simp [mN_sI_ne, sI_2, p2i, b2i, *]; done) | grind) | (rw [if_neg (by  grind)] <;> first | rfl | (simp [mN_sI_ne, sI_2, p2i, b2i, *]; done) | grind))) rfl
        · skip
          have c_41 : (isIn to (S.1 1) 2000) := p2i_n0.mp c_41
          refine g_iload C (pc := 44) dX3_lend_44 rfl ?_
          refine g_iconst C (pc := 46) (v := 1) dX3_lend_46 (by decide) ?_
          refine g_bipush C (pc := 47) (v := 100) dX3_lend_47 (by decide) ?_
          refine g_callSD C (pc := 49) [.int u, .int 1, .int 100] [] dX3_lend_49 (c_X3_isIn l D B (wd K (sI S 0 0) h) n u 1 100 ) (lw_S q1458 q1459 q87 q1460) ds_X3_isIn ⟨rfl, rfl⟩ ⟨Nat.le_of_ble_eq_true rfl, Nat.le_of_ble_eq_true rfl⟩ rfl rfl ⟨Nat.le_of_ble_eq_true rfl, Nat.le_of_ble_eq_true rfl⟩ (Nat.le_of_ble_eq_true rfl) rfl ?_
          refine g_if_eq C (pc := 52) (tgt := 70) dX3_lend_52 (by decide) (fun c_52 => ?_) (fun c_52 => ?_)
          · skip
            have c_52 : ¬ (isIn u 1 100) := p2i_0.mp c_52
            refine g_iconst C (pc := 70) (v := (-1)) dX3_lend_70 (by decide) ?_
            exact g_iretD C R dX3_lend_71 (Nat.le_refl _) (Nat.le_refl _) (by unfold m_lend; first | (rw [if_pos (by  grind)] <;> first | rfl | (simp [mN_sI_ne, sI_2, p2i, b2i, *]; done) | grind) | (rw [if_neg (by  grind)] <;> first | rfl | (simp [mN_sI_ne, sI_2, p2i, b2i, *]; done) | grind)) (congrArg (fun z => wd K z h) (by unfold m_lend; first | (rw [if_pos (by  grind)] <;> first | rfl | (simp [mN_sI_ne, sI_2, p2i, b2i, *]; done) | grind) | (rw [if_neg (by  grind)] <;> first | rfl | (simp [mN_sI_ne, sI_2, p2i, b2i, *]; done) | grind))) rfl
          · skip
            have c_52 : (isIn u 1 100) := p2i_n0.mp c_52
            refine g_iload C (pc := 55) dX3_lend_55 rfl ?_
            refine g_iconst C (pc := 57) (v := (-1)) dX3_lend_57 (by decide) ?_
            refine g_icmp_eq C (pc := 58) (tgt := 72) dX3_lend_58 (by decide) (fun c_58 => ?_) (fun c_58 => ?_)
            · skip
              have c_58 : ((t) : Int32) = -1 := c_58
              refine g_aload_n C (pc := 72) dX3_lend_72 rfl rfl ?_
              refine m_geta C 72 69 (pc := 73) dX3_lend_73 (by decide) (fun _ => rfl) q1265 rfl ?_
              refine g_aload_n C (pc := 76) dX3_lend_76 rfl rfl ?_
              refine m_geti C 79 (pc := 77) (v := nI (mN S 79)) dX3_lend_77 rfl q1272 rfl hS.c79.1 ?_
              refine g_iload_n C (pc := 80) dX3_lend_80 rfl ?_
              refine m_iast C (pc := 81) (j := (mN S 79)) dX3_lend_81 (by decide) rfl (vp_in_nI (by omega) (by decide)) (nI_clamp (by omega)) ?_
              refine g_aload_n C (pc := 82) dX3_lend_82 rfl rfl ?_
              refine m_geta C 73 70 (pc := 83) dX3_lend_83 (by decide) (fun _ => rfl) q1266 rfl ?_
              refine g_aload_n C (pc := 86) dX3_lend_86 rfl rfl ?_
              refine m_geti C 79 (pc := 87) (v := nI (mN S 79)) dX3_lend_87 rfl q1272 rfl hS.c79.1 ?_
              refine g_iload_n C (pc := 90) dX3_lend_90 rfl ?_
              refine m_iast C (pc := 91) (j := (mN S 79)) dX3_lend_91 (by decide) rfl (vp_in_nI (by omega) (by decide)) (nI_clamp (by omega)) ?_
              refine g_aload_n C (pc := 92) dX3_lend_92 rfl rfl ?_
              refine m_geta C 74 71 (pc := 93) dX3_lend_93 (by decide) (fun _ => rfl) q1267 rfl ?_
              refine g_aload_n C (pc := 96) dX3_lend_96 rfl rfl ?_
              refine m_geti C 79 (pc := 97) (v := nI (mN S 79)) dX3_lend_97 rfl q1272 rfl hS.c79.1 ?_
              refine g_iload C (pc := 100) dX3_lend_100 rfl ?_
              refine m_iast C (pc := 102) (j := (mN S 79)) dX3_lend_102 (by decide) rfl (vp_in_nI (by omega) (by decide)) (nI_clamp (by omega)) ?_
              refine g_aload_n C (pc := 103) dX3_lend_103 rfl rfl ?_
              refine m_geta C 75 72 (pc := 104) dX3_lend_104 (by decide) (fun _ => rfl) q1268 rfl ?_
              refine g_aload_n C (pc := 107) dX3_lend_107 rfl rfl ?_
              refine m_geti C 79 (pc := 108) (v := nI (mN S 79)) dX3_lend_108 rfl q1272 rfl hS.c79.1 ?_
              refine g_iload C (pc := 111) dX3_lend_111 rfl ?_
              refine m_iast C (pc := 113) (j := (mN S 79)) dX3_lend_113 (by decide) rfl (vp_in_nI (by omega) (by decide)) (nI_clamp (by omega)) ?_
              refine g_aload_n C (pc := 114) dX3_lend_114 rfl rfl ?_
              refine g_dup C (pc := 115) dX3_lend_115 rfl ?_
              refine m_geti C 79 (pc := 116) (v := nI (mN S 79)) dX3_lend_116 rfl q1272 rfl hS.c79.1 ?_
              refine g_iconst C (pc := 119) (v := 1) dX3_lend_119 (by decide) ?_
              refine g_iadd C (pc := 120) dX3_lend_120 ?_
              refine G.topc (nI_1 _) ?_
              refine m_puti C 79 (pc := 121) dX3_lend_121 rfl q1272 rfl rfl rfl ?_
              refine g_aload_n C (pc := 124) dX3_lend_124 rfl rfl ?_
              refine m_geti C 79 (pc := 125) (v := nI ((mN S 79) + 1)) dX3_lend_125 rfl q1272 rfl rfl ?_
              refine g_iconst C (pc := 128) (v := 1) dX3_lend_128 (by decide) ?_
              refine g_isub C (pc := 129) dX3_lend_129 ?_
              refine G.topc (nI_pred _) ?_
              exact g_iretD C R dX3_lend_130 (Nat.le_refl _) (Nat.le_refl _) (by unfold m_lend; first | (rw [if_pos (by  grind)] <;> first | rfl | (simp [mN_sI_ne, sI_2, p2i, b2i, *]; done) | grind) | (rw [if_neg (by  grind)] <;> first | rfl | (simp [mN_sI_ne, sI_2, p2i, b2i, *]; done) | grind)) (congrArg (fun z => wd K z h) (by unfold m_lend; first | (rw [if_pos (by  grind)] <;> first | rfl | (simp [mN_sI_ne, sI_2, p2i, b2i, *]; done) | grind) | (rw [if_neg (by  grind)] <;> first | rfl | (simp [mN_sI_ne, sI_2, p2i, b2i, *]; done) | grind))) rfl
            · skip
              have c_58 : ¬ ((t) : Int32) = -1 := c_58
              refine g_aload_n C (pc := 61) dX3_lend_61 rfl rfl ?_
              refine g_iload C (pc := 62) dX3_lend_62 rfl ?_
              refine g_callVD C (pc := 64) [.int t] [] dX3_lend_64 (c_X3_isThing l D B K (sI S 0 0) h n t ) (lw_V q1705 q1707 qs66 q87 q1708) (wd_20 _ _ _) rfl rfl ds_X3_isThing ⟨rfl, rfl⟩ ⟨Nat.le_of_ble_eq_true rfl, Nat.le_of_ble_eq_true rfl⟩ rfl rfl ⟨Nat.le_of_ble_eq_true rfl, Nat.le_of_ble_eq_true rfl⟩ (Nat.le_of_ble_eq_true rfl) rfl ?_
              refine g_if_ne C (pc := 67) (tgt := 72) dX3_lend_67 (by decide) (fun c_67 => ?_) (fun c_67 => ?_)
              · skip
                have c_67 : (isThing S t) := p2i_n0.mp c_67
                refine g_aload_n C (pc := 72) dX3_lend_72 rfl rfl ?_
                refine m_geta C 72 69 (pc := 73) dX3_lend_73 (by decide) (fun _ => rfl) q1265 rfl ?_
                refine g_aload_n C (pc := 76) dX3_lend_76 rfl rfl ?_
                refine m_geti C 79 (pc := 77) (v := nI (mN S 79)) dX3_lend_77 rfl q1272 rfl hS.c79.1 ?_
                refine g_iload_n C (pc := 80) dX3_lend_80 rfl ?_
                refine m_iast C (pc := 81) (j := (mN S 79)) dX3_lend_81 (by decide) rfl (vp_in_nI (by omega) (by decide)) (nI_clamp (by omega)) ?_
                refine g_aload_n C (pc := 82) dX3_lend_82 rfl rfl ?_
                refine m_geta C 73 70 (pc := 83) dX3_lend_83 (by decide) (fun _ => rfl) q1266 rfl ?_
                refine g_aload_n C (pc := 86) dX3_lend_86 rfl rfl ?_
                refine m_geti C 79 (pc := 87) (v := nI (mN S 79)) dX3_lend_87 rfl q1272 rfl hS.c79.1 ?_
                refine g_iload_n C (pc := 90) dX3_lend_90 rfl ?_
                refine m_iast C (pc := 91) (j := (mN S 79)) dX3_lend_91 (by decide) rfl (vp_in_nI (by omega) (by decide)) (nI_clamp (by omega)) ?_
                refine g_aload_n C (pc := 92) dX3_lend_92 rfl rfl ?_
                refine m_geta C 74 71 (pc := 93) dX3_lend_93 (by decide) (fun _ => rfl) q1267 rfl ?_
                refine g_aload_n C (pc := 96) dX3_lend_96 rfl rfl ?_
                refine m_geti C 79 (pc := 97) (v := nI (mN S 79)) dX3_lend_97 rfl q1272 rfl hS.c79.1 ?_
                refine g_iload C (pc := 100) dX3_lend_100 rfl ?_
                refine m_iast C (pc := 102) (j := (mN S 79)) dX3_lend_102 (by decide) rfl (vp_in_nI (by omega) (by decide)) (nI_clamp (by omega)) ?_
                refine g_aload_n C (pc := 103) dX3_lend_103 rfl rfl ?_
                refine m_geta C 75 72 (pc := 104) dX3_lend_104 (by decide) (fun _ => rfl) q1268 rfl ?_
                refine g_aload_n C (pc := 107) dX3_lend_107 rfl rfl ?_
                refine m_geti C 79 (pc := 108) (v := nI (mN S 79)) dX3_lend_108 rfl q1272 rfl hS.c79.1 ?_
                refine g_iload C (pc := 111) dX3_lend_111 rfl ?_
                refine m_iast C (pc := 113) (j := (mN S 79)) dX3_lend_113 (by decide) rfl (vp_in_nI (by omega) (by decide)) (nI_clamp (by omega)) ?_
                refine g_aload_n C (pc := 114) dX3_lend_114 rfl rfl ?_
                refine g_dup C (pc := 115) dX3_lend_115 rfl ?_
                refine m_geti C 79 (pc := 116) (v := nI (mN S 79)) dX3_lend_116 rfl q1272 rfl hS.c79.1 ?_
                refine g_iconst C (pc := 119) (v := 1) dX3_lend_119 (by decide) ?_
                refine g_iadd C (pc := 120) dX3_lend_120 ?_
                refine G.topc (nI_1 _) ?_
                refine m_puti C 79 (pc := 121) dX3_lend_121 rfl q1272 rfl rfl rfl ?_
                refine g_aload_n C (pc := 124) dX3_lend_124 rfl rfl ?_
                refine m_geti C 79 (pc := 125) (v := nI ((mN S 79) + 1)) dX3_lend_125 rfl q1272 rfl rfl ?_
                refine g_iconst C (pc := 128) (v := 1) dX3_lend_128 (by decide) ?_
                refine g_isub C (pc := 129) dX3_lend_129 ?_
                refine G.topc (nI_pred _) ?_
                exact g_iretD C R dX3_lend_130 (Nat.le_refl _) (Nat.le_refl _) (by unfold m_lend; first | (rw [if_pos (by  grind)] <;> first | rfl | (simp [mN_sI_ne, sI_2, p2i, b2i, *]; done) | grind) | (rw [if_neg (by  grind)] <;> first | rfl | (simp [mN_sI_ne, sI_2, p2i, b2i, *]; done) | grind)) (congrArg (fun z => wd K z h) (by unfold m_lend; first | (rw [if_pos (by  grind)] <;> first | rfl | (simp [mN_sI_ne, sI_2, p2i, b2i, *]; done) | grind) | (rw [if_neg (by  grind)] <;> first | rfl | (simp [mN_sI_ne, sI_2, p2i, b2i, *]; done) | grind))) rfl
              · skip
                have c_67 : ¬ (isThing S t) := p2i_0.mp c_67
                refine g_iconst C (pc := 70) (v := (-1)) dX3_lend_70 (by decide) ?_
                exact g_iretD C R dX3_lend_71 (Nat.le_refl _) (Nat.le_refl _) (by unfold m_lend; first | (rw [if_pos (by  grind)] <;> first | rfl | (simp [mN_sI_ne, sI_2, p2i, b2i, *]; done) | grind) | (rw [if_neg (by  grind)] <;> first | rfl | (simp [mN_sI_ne, sI_2, p2i, b2i, *]; done) | grind)) (congrArg (fun z => wd K z h) (by unfold m_lend; first | (rw [if_pos (by  grind)] <;> first | rfl | (simp [mN_sI_ne, sI_2, p2i, b2i, *]; done) | grind) | (rw [if_neg (by  grind)] <;> first | rfl | (simp [mN_sI_ne, sI_2, p2i, b2i, *]; done) | grind))) rfl
theorem ds_X3_lend : yX3_lend.cls ≠ "java/lang/invoke/MethodHandle" ∧ yX3_lend.cls ≠ "java/lang/invoke/VarHandle" ∧ (parseMethodDescriptor yX3_lend.desc).map (fun d => d.parameters.length) = some 5 := by decide +kernel
set_option maxHeartbeats 4000000 in
set_option maxRecDepth 100000 in
theorem c_X3_use (l : Launch) (D : gD) (B : Nat × Nat) (K : KS) (S : MS) (h : gHp) (n : Nat) (i : Int32) (t : Int32) (x : Int32) (hS : MOK S) : Con l yX3_use (ws_ yX3_use cX3_use 4 (some .int)) ({ frames := 3, cells := 0, slots := 0, locals := 68 }) D B [.ref 20, .int i, .int t, .int x] (wd K S h) n (gdt (some (.int ((m_use S i t x).2))) (wd K ((m_use S i t x).1) h) n) 0 0 := by
  have b12 := hS.c12.2
  have b13 := hS.c13.2
  have b14 := hS.c14.2
  have b16 := hS.c16.2
  have b29 := hS.c29.2
  have b30 := hS.c30.2
  have b31 := hS.c31.2
  have b48 := hS.c48.2
  have b49 := hS.c49.2
  have b50 := hS.c50.2
  have b51 := hS.c51.2
  have b77 := hS.c77.2
  have b78 := hS.c78.2
  have b79 := hS.c79.2
  have b82 := hS.c82.2
  refine Con.begin [some (.ref 20), some (.int i), some (.int t), some (.int x)] rfl rfl (Nat.le_of_ble_eq_true rfl) rfl rfl (fun X C R => ?_)
  refine g_aload_n C (pc := 0) dX3_use_0 rfl rfl ?_
  refine g_iconst C (pc := 1) (v := 0) dX3_use_1 (by decide) ?_
  refine m_puti C 0 (pc := 2) dX3_use_2 rfl q1193 rfl rfl rfl ?_
  refine g_aload_n C (pc := 5) dX3_use_5 rfl rfl ?_
  refine m_geti C 77 (pc := 6) (v := nI (mN S 77)) dX3_use_6 rfl q1270 rfl hS.c77.1 ?_
  refine g_bipush C (pc := 9) (v := 80) dX3_use_9 (by decide) ?_
  refine g_icmp_eq C (pc := 11) (tgt := 111) dX3_use_11 (by decide) (fun c_11 => ?_) (fun c_11 => ?_)
  · skip
    have c_11 : (mN S 77) = 80 := (nI_eq (a := (mN S 77)) (b := 80) (by omega) (by omega)).mp c_11
    refine g_iconst C (pc := 111) (v := (-1)) dX3_use_111 (by decide) ?_
    exact g_iretD C R dX3_use_112 (Nat.le_refl _) (Nat.le_refl _) (by unfold m_use; first | (rw [if_pos (by  grind)] <;> first | rfl | (simp [mN_sI_ne, sI_2, p2i, b2i, *]; done) | grind) | (rw [if_neg (by  grind)] <;> first | rfl | (simp [mN_sI_ne, sI_2, p2i, b2i, *]; done) | grind)) (congrArg (fun z => wd K z h) (by unfold m_use; first | (rw [if_pos (by  grind)] <;> first | rfl | (simp [mN_sI_ne, sI_2, p2i, b2i, *]; done) | grind) | (rw [if_neg (by  grind)] <;> first | rfl | (simp [mN_sI_ne, sI_2, p2i, b2i, *]; done) | grind))) rfl
  · skip
    have c_11 : ¬ (mN S 77) = 80 := fun q => c_11 ((nI_eq (a := (mN S 77)) (b := 80) (by omega) (by omega)).mpr q)
    refine g_iload_n C (pc := 14) dX3_use_14 rfl ?_
    refine g_iconst C (pc := 15) (v := 0) dX3_use_15 (by decide) ?_
    refine g_aload_n C (pc := 16) dX3_use_16 rfl rfl ?_
    refine m_geti C 79 (pc := 17) (v := nI (mN S 79)) dX3_use_17 rfl q1272 rfl hS.c79.1 ?_
    refine g_iconst C (pc := 20) (v := 1) dX3_use_20 (by decide) ?_
    refine g_isub C (pc := 21) dX3_use_21 ?_
    refine g_callSD C (pc := 22) [.int i, .int 0, .int ((nI (mN S 79)) - 1)] [] dX3_use_22 (c_X3_isIn l D B (wd K (sI S 0 0) h) n i 0 ((nI (mN S 79)) - 1) ) (lw_S q1458 q1459 q87 q1460) ds_X3_isIn ⟨rfl, rfl⟩ ⟨Nat.le_of_ble_eq_true rfl, Nat.le_of_ble_eq_true rfl⟩ rfl rfl ⟨Nat.le_of_ble_eq_true rfl, Nat.le_of_ble_eq_true rfl⟩ (Nat.le_of_ble_eq_true rfl) rfl ?_
    refine g_if_eq C (pc := 25) (tgt := 111) dX3_use_25 (by decide) (fun c_25 => ?_) (fun c_25 => ?_)
    · skip
      have c_25 : ¬ (isIn i 0 ((nI (mN S 79)) - 1)) := p2i_0.mp c_25
      refine g_iconst C (pc := 111) (v := (-1)) dX3_use_111 (by decide) ?_
      exact g_iretD C R dX3_use_112 (Nat.le_refl _) (Nat.le_refl _) (by unfold m_use; first | (rw [if_pos (by  grind)] <;> first | rfl | (simp [mN_sI_ne, sI_2, p2i, b2i, *]; done) | grind) | (rw [if_neg (by  grind)] <;> first | rfl | (simp [mN_sI_ne, sI_2, p2i, b2i, *]; done) | grind)) (congrArg (fun z => wd K z h) (by unfold m_use; first | (rw [if_pos (by  grind)] <;> first | rfl | (simp [mN_sI_ne, sI_2, p2i, b2i, *]; done) | grind) | (rw [if_neg (by  grind)] <;> first | rfl | (simp [mN_sI_ne, sI_2, p2i, b2i, *]; done) | grind))) rfl
    · skip
      have c_25 : (isIn i 0 ((nI (mN S 79)) - 1)) := p2i_n0.mp c_25
      refine g_aload_n C (pc := 28) dX3_use_28 rfl rfl ?_
      refine g_iload_n C (pc := 29) dX3_use_29 rfl ?_
      refine g_callVD C (pc := 30) [.int t] [] dX3_use_30 (c_X3_isThing l D B K (sI S 0 0) h n t ) (lw_V q1705 q1707 qs66 q87 q1708) (wd_20 _ _ _) rfl rfl ds_X3_isThing ⟨rfl, rfl⟩ ⟨Nat.le_of_ble_eq_true rfl, Nat.le_of_ble_eq_true rfl⟩ rfl rfl ⟨Nat.le_of_ble_eq_true rfl, Nat.le_of_ble_eq_true rfl⟩ (Nat.le_of_ble_eq_true rfl) rfl ?_
      refine g_if_eq C (pc := 33) (tgt := 111) dX3_use_33 (by decide) (fun c_33 => ?_) (fun c_33 => ?_)
      · skip
        have c_33 : ¬ (isThing S t) := p2i_0.mp c_33
        refine g_iconst C (pc := 111) (v := (-1)) dX3_use_111 (by decide) ?_
        exact g_iretD C R dX3_use_112 (Nat.le_refl _) (Nat.le_refl _) (by unfold m_use; first | (rw [if_pos (by  grind)] <;> first | rfl | (simp [mN_sI_ne, sI_2, p2i, b2i, *]; done) | grind) | (rw [if_neg (by  grind)] <;> first | rfl | (simp [mN_sI_ne, sI_2, p2i, b2i, *]; done) | grind)) (congrArg (fun z => wd K z h) (by unfold m_use; first | (rw [if_pos (by  grind)] <;> first | rfl | (simp [mN_sI_ne, sI_2, p2i, b2i, *]; done) | grind) | (rw [if_neg (by  grind)] <;> first | rfl | (simp [mN_sI_ne, sI_2, p2i, b2i, *]; done) | grind))) rfl
      · skip
        have c_33 : (isThing S t) := p2i_n0.mp c_33
        refine g_iload_n C (pc := 36) dX3_use_36 rfl ?_
        refine g_iconst C (pc := 37) (v := 1) dX3_use_37 (by decide) ?_
        refine g_sipush C (pc := 38) (v := 1018) dX3_use_38 (by decide) ?_
        refine g_callSD C (pc := 41) [.int x, .int 1, .int 1018] [] dX3_use_41 (c_X3_isIn l D B (wd K (sI S 0 0) h) n x 1 1018 ) (lw_S q1458 q1459 q87 q1460) ds_X3_isIn ⟨rfl, rfl⟩ ⟨Nat.le_of_ble_eq_true rfl, Nat.le_of_ble_eq_true rfl⟩ rfl rfl ⟨Nat.le_of_ble_eq_true rfl, Nat.le_of_ble_eq_true rfl⟩ (Nat.le_of_ble_eq_true rfl) rfl ?_
        refine g_if_eq C (pc := 44) (tgt := 111) dX3_use_44 (by decide) (fun c_44 => ?_) (fun c_44 => ?_)
        · skip
          have c_44 : ¬ (isIn x 1 1018) := p2i_0.mp c_44
          refine g_iconst C (pc := 111) (v := (-1)) dX3_use_111 (by decide) ?_
          exact g_iretD C R dX3_use_112 (Nat.le_refl _) (Nat.le_refl _) (by unfold m_use; first | (rw [if_pos (by  grind)] <;> first | rfl | (simp [mN_sI_ne, sI_2, p2i, b2i, *]; done) | grind) | (rw [if_neg (by  grind)] <;> first | rfl | (simp [mN_sI_ne, sI_2, p2i, b2i, *]; done) | grind)) (congrArg (fun z => wd K z h) (by unfold m_use; first | (rw [if_pos (by  grind)] <;> first | rfl | (simp [mN_sI_ne, sI_2, p2i, b2i, *]; done) | grind) | (rw [if_neg (by  grind)] <;> first | rfl | (simp [mN_sI_ne, sI_2, p2i, b2i, *]; done) | grind))) rfl
        · skip
          have c_44 : (isIn x 1 1018) := p2i_n0.mp c_44
          refine g_aload_n C (pc := 47) dX3_use_47 rfl rfl ?_
          refine m_geta C 76 73 (pc := 48) dX3_use_48 (by decide) (fun _ => rfl) q1269 rfl ?_
          refine g_iload_n C (pc := 51) dX3_use_51 rfl ?_
          refine m_zald C (pc := 52) (v := nb ((S.2.1 73) ((i).toNatClampNeg))) dX3_use_52 (by decide) rfl (lent_ok hS c_25).1 rfl ?_
          refine g_if_ne C (pc := 53) (tgt := 111) dX3_use_53 (by decide) (fun c_53 => ?_) (fun c_53 => ?_)
          · skip
            have c_53 := nb_n0.mp c_53
            refine g_iconst C (pc := 111) (v := (-1)) dX3_use_111 (by decide) ?_
            exact g_iretD C R dX3_use_112 (Nat.le_refl _) (Nat.le_refl _) (by unfold m_use; first | (rw [if_pos (by  grind)] <;> first | rfl | (simp [mN_sI_ne, sI_2, p2i, b2i, *]; done) | grind) | (rw [if_neg (by  grind)] <;> first | rfl | (simp [mN_sI_ne, sI_2, p2i, b2i, *]; done) | grind)) (congrArg (fun z => wd K z h) (by unfold m_use; first | (rw [if_pos (by  grind)] <;> first | rfl | (simp [mN_sI_ne, sI_2, p2i, b2i, *]; done) | grind) | (rw [if_neg (by  grind)] <;> first | rfl | (simp [mN_sI_ne, sI_2, p2i, b2i, *]; done) | grind))) rfl
          · skip
            have c_53 := nb_0.mp c_53
            refine g_aload_n C (pc := 56) dX3_use_56 rfl rfl ?_
            refine m_geti C 1 (pc := 57) (v := S.1 1) dX3_use_57 rfl q1194 rfl rfl ?_
            refine g_aload_n C (pc := 60) dX3_use_60 rfl rfl ?_
            refine m_geta C 73 70 (pc := 61) dX3_use_61 (by decide) (fun _ => rfl) q1266 rfl ?_
            refine g_iload_n C (pc := 64) dX3_use_64 rfl ?_
            refine m_iald C (pc := 65) (v := (S.2.1 70) ((i).toNatClampNeg)) dX3_use_65 (by decide) rfl (lent_ok hS c_25).1 rfl ?_
            refine g_icmp_gt C (pc := 66) (tgt := 111) dX3_use_66 (by decide) (fun c_66 => ?_) (fun c_66 => ?_)
            · skip
              have c_66 : (((S.2.1 70) ((i).toNatClampNeg)) : Int32) < (S.1 1) := c_66
              refine g_iconst C (pc := 111) (v := (-1)) dX3_use_111 (by decide) ?_
              exact g_iretD C R dX3_use_112 (Nat.le_refl _) (Nat.le_refl _) (by unfold m_use; first | (rw [if_pos (by  grind)] <;> first | rfl | (simp [mN_sI_ne, sI_2, p2i, b2i, *]; done) | grind) | (rw [if_neg (by  grind)] <;> first | rfl | (simp [mN_sI_ne, sI_2, p2i, b2i, *]; done) | grind)) (congrArg (fun z => wd K z h) (by unfold m_use; first | (rw [if_pos (by  grind)] <;> first | rfl | (simp [mN_sI_ne, sI_2, p2i, b2i, *]; done) | grind) | (rw [if_neg (by  grind)] <;> first | rfl | (simp [mN_sI_ne, sI_2, p2i, b2i, *]; done) | grind))) rfl
            · skip
              have c_66 : ¬ (((S.2.1 70) ((i).toNatClampNeg)) : Int32) < (S.1 1) := c_66
              refine g_aload_n C (pc := 69) dX3_use_69 rfl rfl ?_
              refine m_geta C 74 71 (pc := 70) dX3_use_70 (by decide) (fun _ => rfl) q1267 rfl ?_
              refine g_iload_n C (pc := 73) dX3_use_73 rfl ?_
              refine m_iald C (pc := 74) (v := (S.2.1 71) ((i).toNatClampNeg)) dX3_use_74 (by decide) rfl (lent_ok hS c_25).1 rfl ?_
              refine g_if_eq C (pc := 75) (tgt := 111) dX3_use_75 (by decide) (fun c_75 => ?_) (fun c_75 => ?_)
              · skip
                refine g_iconst C (pc := 111) (v := (-1)) dX3_use_111 (by decide) ?_
                exact g_iretD C R dX3_use_112 (Nat.le_refl _) (Nat.le_refl _) (by unfold m_use; first | (rw [if_pos (by  grind)] <;> first | rfl | (simp [mN_sI_ne, sI_2, p2i, b2i, *]; done) | grind) | (rw [if_neg (by  grind)] <;> first | rfl | (simp [mN_sI_ne, sI_2, p2i, b2i, *]; done) | grind)) (congrArg (fun z => wd K z h) (by unfold m_use; first | (rw [if_pos (by  grind)] <;> first | rfl | (simp [mN_sI_ne, sI_2, p2i, b2i, *]; done) | grind) | (rw [if_neg (by  grind)] <;> first | rfl | (simp [mN_sI_ne, sI_2, p2i, b2i, *]; done) | grind))) rfl
              · skip
                refine g_aload_n C (pc := 78) dX3_use_78 rfl rfl ?_
                refine m_geta C 75 72 (pc := 79) dX3_use_79 (by decide) (fun _ => rfl) q1268 rfl ?_
                refine g_iload_n C (pc := 82) dX3_use_82 rfl ?_
                refine m_iald C (pc := 83) (v := (S.2.1 72) ((i).toNatClampNeg)) dX3_use_83 (by decide) rfl (lent_ok hS c_25).1 rfl ?_
                refine g_iconst C (pc := 84) (v := (-1)) dX3_use_84 (by decide) ?_
                refine g_icmp_eq C (pc := 85) (tgt := 98) dX3_use_85 (by decide) (fun c_85 => ?_) (fun c_85 => ?_)
                · skip
                  have c_85 : (((S.2.1 72) ((i).toNatClampNeg)) : Int32) = -1 := c_85
                  refine g_aload_n C (pc := 98) dX3_use_98 rfl rfl ?_
                  refine g_aload_n C (pc := 99) dX3_use_99 rfl rfl ?_
                  refine m_geta C 72 69 (pc := 100) dX3_use_100 (by decide) (fun _ => rfl) q1265 rfl ?_
                  refine g_iload_n C (pc := 103) dX3_use_103 rfl ?_
                  refine m_iald C (pc := 104) (v := (S.2.1 69) ((i).toNatClampNeg)) dX3_use_104 (by decide) rfl (lent_ok hS c_25).1 rfl ?_
                  refine g_callVD C (pc := 105) [.int ((S.2.1 69) ((i).toNatClampNeg))] [] dX3_use_105 (c_X3_maySign l D B K (sI S 0 0) h n ((S.2.1 69) ((i).toNatClampNeg)) (hS.setI 0 rfl) (lent_ok hS c_25).2) (lw_V q1752 q1754 qs71 q87 q1755) (wd_20 _ _ _) rfl rfl ds_X3_maySign ⟨rfl, rfl⟩ ⟨Nat.le_of_ble_eq_true rfl, Nat.le_of_ble_eq_true rfl⟩ rfl rfl ⟨Nat.le_of_ble_eq_true rfl, Nat.le_of_ble_eq_true rfl⟩ (Nat.le_of_ble_eq_true rfl) rfl ?_
                  refine g_if_ne C (pc := 108) (tgt := 113) dX3_use_108 (by decide) (fun c_108 => ?_) (fun c_108 => ?_)
                  · skip
                    have c_108 : (maySign S ((S.2.1 69) ((i).toNatClampNeg))) := p2i_n0.mp c_108
                    refine g_aload_n C (pc := 113) dX3_use_113 rfl rfl ?_
                    refine m_geta C 74 71 (pc := 114) dX3_use_114 (by decide) (fun _ => rfl) q1267 rfl ?_
                    refine g_iload_n C (pc := 117) dX3_use_117 rfl ?_
                    refine g_dup2 C (pc := 118) dX3_use_118 rfl rfl ?_
                    refine m_iald C (pc := 119) (v := (S.2.1 71) ((i).toNatClampNeg)) dX3_use_119 (by decide) rfl (lent_ok hS c_25).1 rfl ?_
                    refine g_iconst C (pc := 120) (v := 1) dX3_use_120 (by decide) ?_
                    refine g_isub C (pc := 121) dX3_use_121 ?_
                    refine m_iast C (pc := 122) (j := (i).toNatClampNeg) dX3_use_122 (by decide) rfl (lent_ok hS c_25).1 rfl ?_
                    refine g_aload_n C (pc := 123) dX3_use_123 rfl rfl ?_
                    refine g_aload_n C (pc := 124) dX3_use_124 rfl rfl ?_
                    refine m_geta C 72 69 (pc := 125) dX3_use_125 (by decide) (fun _ => rfl) q1265 rfl ?_
                    refine g_iload_n C (pc := 128) dX3_use_128 rfl ?_
                    refine m_iald C (pc := 129) (v := (S.2.1 69) ((i).toNatClampNeg)) dX3_use_129 (by decide) rfl (lent_ok hS c_25).1 rfl ?_
                    refine g_iload_n C (pc := 130) dX3_use_130 rfl ?_
                    refine g_iload_n C (pc := 131) dX3_use_131 rfl ?_
                    refine g_callVD C (pc := 132) [.int ((S.2.1 69) ((i).toNatClampNeg)), .int t, .int x] [] dX3_use_132 (c_X3_signs l D B K (sE (sI S 0 0) 71 ((i).toNatClampNeg) (((S.2.1 71) ((i).toNatClampNeg)) - 1)) h n ((S.2.1 69) ((i).toNatClampNeg)) t x ((hS.setI 0 rfl).setE _ _ rfl) (by show (mN S 77) < 80; omega) (lent_ok hS c_25).2 (isThing.inr hS c_33)) (lw_V q1760 q1762 qs73 q87 q1763) (wd_20 _ _ _) rfl rfl ds_X3_signs ⟨rfl, rfl⟩ ⟨Nat.le_of_ble_eq_true rfl, Nat.le_of_ble_eq_true rfl⟩ rfl rfl ⟨Nat.le_of_ble_eq_true rfl, Nat.le_of_ble_eq_true rfl⟩ (Nat.le_of_ble_eq_true rfl) rfl ?_
                    refine G.nmS (fun S_132 e_S_132 => ?_)
                    exact g_iretD C R dX3_use_135 (Nat.le_refl _) (Nat.le_refl _) (by unfold m_use; first | (rw [if_pos (by  grind)] <;> first | rfl | (simp [mN_sI_ne, sI_2, p2i, b2i, *]; done) | grind) | (rw [if_neg (by  grind)] <;> first | rfl | (simp [mN_sI_ne, sI_2, p2i, b2i, *]; done) | grind)) (congrArg (fun z => wd K z h) (by unfold m_use; first | (rw [if_pos (by  grind)] <;> first | rfl | (simp [mN_sI_ne, sI_2, p2i, b2i, *]; done) | grind) | (rw [if_neg (by  grind)] <;> first | rfl | (simp [mN_sI_ne, sI_2, p2i, b2i, *]; done) | grind))) rfl
                  · skip
                    have c_108 : ¬ (maySign S ((S.2.1 69) ((i).toNatClampNeg))) := p2i_0.mp c_108
                    refine g_iconst C (pc := 111) (v := (-1)) dX3_use_111 (by decide) ?_
                    exact g_iretD C R dX3_use_112 (Nat.le_refl _) (Nat.le_refl _) (by unfold m_use; first | (rw [if_pos (by  grind)] <;> first | rfl | (simp [mN_sI_ne, sI_2, p2i, b2i, *]; done) | grind) | (rw [if_neg (by  grind)] <;> first | rfl | (simp [mN_sI_ne, sI_2, p2i, b2i, *]; done) | grind)) (congrArg (fun z => wd K z h) (by unfold m_use; first | (rw [if_pos (by  grind)] <;> first | rfl | (simp [mN_sI_ne, sI_2, p2i, b2i, *]; done) | grind) | (rw [if_neg (by  grind)] <;> first | rfl | (simp [mN_sI_ne, sI_2, p2i, b2i, *]; done) | grind))) rfl
                · skip
                  have c_85 : ¬ (((S.2.1 72) ((i).toNatClampNeg)) : Int32) = -1 := c_85
                  refine g_aload_n C (pc := 88) dX3_use_88 rfl rfl ?_
                  refine m_geta C 75 72 (pc := 89) dX3_use_89 (by decide) (fun _ => rfl) q1268 rfl ?_
                  refine g_iload_n C (pc := 92) dX3_use_92 rfl ?_
                  refine m_iald C (pc := 93) (v := (S.2.1 72) ((i).toNatClampNeg)) dX3_use_93 (by decide) rfl (lent_ok hS c_25).1 rfl ?_
                  refine g_iload_n C (pc := 94) dX3_use_94 rfl ?_
                  refine g_icmp_ne C (pc := 95) (tgt := 111) dX3_use_95 (by decide) (fun c_95 => ?_) (fun c_95 => ?_)
                  · skip
                    have c_95 : ¬ (((S.2.1 72) ((i).toNatClampNeg)) : Int32) = t := c_95
                    refine g_iconst C (pc := 111) (v := (-1)) dX3_use_111 (by decide) ?_
                    exact g_iretD C R dX3_use_112 (Nat.le_refl _) (Nat.le_refl _) (by unfold m_use; first | (rw [if_pos (by  grind)] <;> first | rfl | (simp [mN_sI_ne, sI_2, p2i, b2i, *]; done) | grind) | (rw [if_neg (by  grind)] <;> first | rfl | (simp [mN_sI_ne, sI_2, p2i, b2i, *]; done) | grind)) (congrArg (fun z => wd K z h) (by unfold m_use; first | (rw [if_pos (by  grind)] <;> first | rfl | (simp [mN_sI_ne, sI_2, p2i, b2i, *]; done) | grind) | (rw [if_neg (by  grind)] <;> first | rfl | (simp [mN_sI_ne, sI_2, p2i, b2i, *]; done) | grind))) rfl
                  · skip
                    have c_95 : (((S.2.1 72) ((i).toNatClampNeg)) : Int32) = t := c_95
                    refine g_aload_n C (pc := 98) dX3_use_98 rfl rfl ?_
                    refine g_aload_n C (pc := 99) dX3_use_99 rfl rfl ?_
                    refine m_geta C 72 69 (pc := 100) dX3_use_100 (by decide) (fun _ => rfl) q1265 rfl ?_
                    refine g_iload_n C (pc := 103) dX3_use_103 rfl ?_
                    refine m_iald C (pc := 104) (v := (S.2.1 69) ((i).toNatClampNeg)) dX3_use_104 (by decide) rfl (lent_ok hS c_25).1 rfl ?_
                    refine g_callVD C (pc := 105) [.int ((S.2.1 69) ((i).toNatClampNeg))] [] dX3_use_105 (c_X3_maySign l D B K (sI S 0 0) h n ((S.2.1 69) ((i).toNatClampNeg)) (hS.setI 0 rfl) (lent_ok hS c_25).2) (lw_V q1752 q1754 qs71 q87 q1755) (wd_20 _ _ _) rfl rfl ds_X3_maySign ⟨rfl, rfl⟩ ⟨Nat.le_of_ble_eq_true rfl, Nat.le_of_ble_eq_true rfl⟩ rfl rfl ⟨Nat.le_of_ble_eq_true rfl, Nat.le_of_ble_eq_true rfl⟩ (Nat.le_of_ble_eq_true rfl) rfl ?_
                    refine g_if_ne C (pc := 108) (tgt := 113) dX3_use_108 (by decide) (fun c_108 => ?_) (fun c_108 => ?_)
                    · skip
                      have c_108 : (maySign S ((S.2.1 69) ((i).toNatClampNeg))) := p2i_n0.mp c_108
                      refine g_aload_n C (pc := 113) dX3_use_113 rfl rfl ?_
                      refine m_geta C 74 71 (pc := 114) dX3_use_114 (by decide) (fun _ => rfl) q1267 rfl ?_
                      refine g_iload_n C (pc := 117) dX3_use_117 rfl ?_
                      refine g_dup2 C (pc := 118) dX3_use_118 rfl rfl ?_
                      refine m_iald C (pc := 119) (v := (S.2.1 71) ((i).toNatClampNeg)) dX3_use_119 (by decide) rfl (lent_ok hS c_25).1 rfl ?_
                      refine g_iconst C (pc := 120) (v := 1) dX3_use_120 (by decide) ?_
                      refine g_isub C (pc := 121) dX3_use_121 ?_
                      refine m_iast C (pc := 122) (j := (i).toNatClampNeg) dX3_use_122 (by decide) rfl (lent_ok hS c_25).1 rfl ?_
                      refine g_aload_n C (pc := 123) dX3_use_123 rfl rfl ?_
                      refine g_aload_n C (pc := 124) dX3_use_124 rfl rfl ?_
                      refine m_geta C 72 69 (pc := 125) dX3_use_125 (by decide) (fun _ => rfl) q1265 rfl ?_
                      refine g_iload_n C (pc := 128) dX3_use_128 rfl ?_
                      refine m_iald C (pc := 129) (v := (S.2.1 69) ((i).toNatClampNeg)) dX3_use_129 (by decide) rfl (lent_ok hS c_25).1 rfl ?_
                      refine g_iload_n C (pc := 130) dX3_use_130 rfl ?_
                      refine g_iload_n C (pc := 131) dX3_use_131 rfl ?_
                      refine g_callVD C (pc := 132) [.int ((S.2.1 69) ((i).toNatClampNeg)), .int t, .int x] [] dX3_use_132 (c_X3_signs l D B K (sE (sI S 0 0) 71 ((i).toNatClampNeg) (((S.2.1 71) ((i).toNatClampNeg)) - 1)) h n ((S.2.1 69) ((i).toNatClampNeg)) t x ((hS.setI 0 rfl).setE _ _ rfl) (by show (mN S 77) < 80; omega) (lent_ok hS c_25).2 (isThing.inr hS c_33)) (lw_V q1760 q1762 qs73 q87 q1763) (wd_20 _ _ _) rfl rfl ds_X3_signs ⟨rfl, rfl⟩ ⟨Nat.le_of_ble_eq_true rfl, Nat.le_of_ble_eq_true rfl⟩ rfl rfl ⟨Nat.le_of_ble_eq_true rfl, Nat.le_of_ble_eq_true rfl⟩ (Nat.le_of_ble_eq_true rfl) rfl ?_
                      refine G.nmS (fun S_132 e_S_132 => ?_)
                      exact g_iretD C R dX3_use_135 (Nat.le_refl _) (Nat.le_refl _) (by unfold m_use; first | (rw [if_pos (by  grind)] <;> first | rfl | (simp [mN_sI_ne, sI_2, p2i, b2i, *]; done) | grind) | (rw [if_neg (by  grind)] <;> first | rfl | (simp [mN_sI_ne, sI_2, p2i, b2i, *]; done) | grind)) (congrArg (fun z => wd K z h) (by unfold m_use; first | (rw [if_pos (by  grind)] <;> first | rfl | (simp [mN_sI_ne, sI_2, p2i, b2i, *]; done) | grind) | (rw [if_neg (by  grind)] <;> first | rfl | (simp [mN_sI_ne, sI_2, p2i, b2i, *]; done) | grind))) rfl
                    · skip
                      have c_108 : ¬ (maySign S ((S.2.1 69) ((i).toNatClampNeg))) := p2i_0.mp c_108
                      refine g_iconst C (pc := 111) (v := (-1)) dX3_use_111 (by decide) ?_
                      exact g_iretD C R dX3_use_112 (Nat.le_refl _) (Nat.le_refl _) (by unfold m_use; first | (rw [if_pos (by  grind)] <;> first | rfl | (simp [mN_sI_ne, sI_2, p2i, b2i, *]; done) | grind) | (rw [if_neg (by  grind)] <;> first | rfl | (simp [mN_sI_ne, sI_2, p2i, b2i, *]; done) | grind)) (congrArg (fun z => wd K z h) (by unfold m_use; first | (rw [if_pos (by  grind)] <;> first | rfl | (simp [mN_sI_ne, sI_2, p2i, b2i, *]; done) | grind) | (rw [if_neg (by  grind)] <;> first | rfl | (simp [mN_sI_ne, sI_2, p2i, b2i, *]; done) | grind))) rfl
theorem ds_X3_use : yX3_use.cls ≠ "java/lang/invoke/MethodHandle" ∧ yX3_use.cls ≠ "java/lang/invoke/VarHandle" ∧ (parseMethodDescriptor yX3_use.desc).map (fun d => d.parameters.length) = some 3 := by decide +kernel
set_option maxHeartbeats 4000000 in
set_option maxRecDepth 100000 in
theorem c_X3_back (l : Launch) (D : gD) (B : Nat × Nat) (K : KS) (S : MS) (h : gHp) (n : Nat) (i : Int32) (hS : MOK S) : Con l yX3_back (ws_ yX3_back cX3_back 2 (some .boolean)) ({ frames := 1, cells := 0, slots := 0, locals := 22 }) D B [.ref 20, .int i] (wd K S h) n (gdt (some (.int (b2i (m_back S i).2))) (wd K ((m_back S i).1) h) n) 0 0 := by
  have b12 := hS.c12.2
  have b13 := hS.c13.2
  have b14 := hS.c14.2
  have b16 := hS.c16.2
  have b29 := hS.c29.2
  have b30 := hS.c30.2
  have b31 := hS.c31.2
  have b48 := hS.c48.2
  have b49 := hS.c49.2
  have b50 := hS.c50.2
  have b51 := hS.c51.2
  have b77 := hS.c77.2
  have b78 := hS.c78.2
  have b79 := hS.c79.2
  have b82 := hS.c82.2
  refine Con.begin [some (.ref 20), some (.int i)] rfl rfl (Nat.le_of_ble_eq_true rfl) rfl rfl (fun X C R => ?_)
  refine g_aload_n C (pc := 0) dX3_back_0 rfl rfl ?_
  refine g_iconst C (pc := 1) (v := 0) dX3_back_1 (by decide) ?_
  refine m_puti C 0 (pc := 2) dX3_back_2 rfl q1193 rfl rfl rfl ?_
  refine g_iload_n C (pc := 5) dX3_back_5 rfl ?_
  refine g_iconst C (pc := 6) (v := 0) dX3_back_6 (by decide) ?_
  refine g_aload_n C (pc := 7) dX3_back_7 rfl rfl ?_
  refine m_geti C 79 (pc := 8) (v := nI (mN S 79)) dX3_back_8 rfl q1272 rfl hS.c79.1 ?_
  refine g_iconst C (pc := 11) (v := 1) dX3_back_11 (by decide) ?_
  refine g_isub C (pc := 12) dX3_back_12 ?_
  refine g_callSD C (pc := 13) [.int i, .int 0, .int ((nI (mN S 79)) - 1)] [] dX3_back_13 (c_X3_isIn l D B (wd K (sI S 0 0) h) n i 0 ((nI (mN S 79)) - 1) ) (lw_S q1458 q1459 q87 q1460) ds_X3_isIn ⟨rfl, rfl⟩ ⟨Nat.le_of_ble_eq_true rfl, Nat.le_of_ble_eq_true rfl⟩ rfl rfl ⟨Nat.le_of_ble_eq_true rfl, Nat.le_of_ble_eq_true rfl⟩ (Nat.le_of_ble_eq_true rfl) rfl ?_
  refine g_if_eq C (pc := 16) (tgt := 28) dX3_back_16 (by decide) (fun c_16 => ?_) (fun c_16 => ?_)
  · skip
    have c_16 : ¬ (isIn i 0 ((nI (mN S 79)) - 1)) := p2i_0.mp c_16
    refine g_iconst C (pc := 28) (v := 0) dX3_back_28 (by decide) ?_
    exact g_zretD C (b2i_nb _) R dX3_back_29 (Nat.le_refl _) (Nat.le_refl _) (by unfold m_back; first | (rw [if_pos (by  grind)] <;> first | rfl | (simp [mN_sI_ne, sI_2, p2i, b2i, *]; done) | grind) | (rw [if_neg (by  grind)] <;> first | rfl | (simp [mN_sI_ne, sI_2, p2i, b2i, *]; done) | grind)) (congrArg (fun z => wd K z h) (by unfold m_back; first | (rw [if_pos (by  grind)] <;> first | rfl | (simp [mN_sI_ne, sI_2, p2i, b2i, *]; done) | grind) | (rw [if_neg (by  grind)] <;> first | rfl | (simp [mN_sI_ne, sI_2, p2i, b2i, *]; done) | grind))) rfl
  · skip
    have c_16 : (isIn i 0 ((nI (mN S 79)) - 1)) := p2i_n0.mp c_16
    refine g_aload_n C (pc := 19) dX3_back_19 rfl rfl ?_
    refine m_geta C 76 73 (pc := 20) dX3_back_20 (by decide) (fun _ => rfl) q1269 rfl ?_
    refine g_iload_n C (pc := 23) dX3_back_23 rfl ?_
    refine m_zald C (pc := 24) (v := nb ((S.2.1 73) ((i).toNatClampNeg))) dX3_back_24 (by decide) rfl (isIn_in b79 (by decide) c_16) rfl ?_
    refine g_if_eq C (pc := 25) (tgt := 30) dX3_back_25 (by decide) (fun c_25 => ?_) (fun c_25 => ?_)
    · skip
      have c_25 := nb_0.mp c_25
      refine g_aload_n C (pc := 30) dX3_back_30 rfl rfl ?_
      refine m_geta C 76 73 (pc := 31) dX3_back_31 (by decide) (fun _ => rfl) q1269 rfl ?_
      refine g_iload_n C (pc := 34) dX3_back_34 rfl ?_
      refine g_iconst C (pc := 35) (v := 1) dX3_back_35 (by decide) ?_
      refine m_zast C (pc := 36) (j := (i).toNatClampNeg) dX3_back_36 (by decide) rfl (isIn_in b79 (by decide) c_16) rfl rfl ?_
      refine g_iconst C (pc := 37) (v := 1) dX3_back_37 (by decide) ?_
      exact g_zretD C (b2i_nb _) R dX3_back_38 (Nat.le_refl _) (Nat.le_refl _) (by unfold m_back; first | (rw [if_pos (by  grind)] <;> first | rfl | (simp [mN_sI_ne, sI_2, p2i, b2i, *]; done) | grind) | (rw [if_neg (by  grind)] <;> first | rfl | (simp [mN_sI_ne, sI_2, p2i, b2i, *]; done) | grind)) (congrArg (fun z => wd K z h) (by unfold m_back; first | (rw [if_pos (by  grind)] <;> first | rfl | (simp [mN_sI_ne, sI_2, p2i, b2i, *]; done) | grind) | (rw [if_neg (by  grind)] <;> first | rfl | (simp [mN_sI_ne, sI_2, p2i, b2i, *]; done) | grind))) rfl
    · skip
      have c_25 := nb_n0.mp c_25
      refine g_iconst C (pc := 28) (v := 0) dX3_back_28 (by decide) ?_
      exact g_zretD C (b2i_nb _) R dX3_back_29 (Nat.le_refl _) (Nat.le_refl _) (by unfold m_back; first | (rw [if_pos (by  grind)] <;> first | rfl | (simp [mN_sI_ne, sI_2, p2i, b2i, *]; done) | grind) | (rw [if_neg (by  grind)] <;> first | rfl | (simp [mN_sI_ne, sI_2, p2i, b2i, *]; done) | grind)) (congrArg (fun z => wd K z h) (by unfold m_back; first | (rw [if_pos (by  grind)] <;> first | rfl | (simp [mN_sI_ne, sI_2, p2i, b2i, *]; done) | grind) | (rw [if_neg (by  grind)] <;> first | rfl | (simp [mN_sI_ne, sI_2, p2i, b2i, *]; done) | grind))) rfl
theorem ds_X3_back : yX3_back.cls ≠ "java/lang/invoke/MethodHandle" ∧ yX3_back.cls ≠ "java/lang/invoke/VarHandle" ∧ (parseMethodDescriptor yX3_back.desc).map (fun d => d.parameters.length) = some 1 := by decide +kernel
set_option maxHeartbeats 4000000 in
set_option maxRecDepth 100000 in
theorem c_X3_told (l : Launch) (D : gD) (B : Nat × Nat) (K : KS) (S : MS) (h : gHp) (n : Nat) (k : Int32) (w : Int32) (hS : MOK S) : Con l yX3_told (ws_ yX3_told cX3_told 5 (some .int)) ({ frames := 1, cells := 0, slots := 0, locals := 24 }) D B [.ref 20, .int k, .int w] (wd K S h) n (gdt (some (.int (m_told S k w))) (wd K ((sI S 0 0)) h) n) 0 0 := by
  have b12 := hS.c12.2
  have b13 := hS.c13.2
  have b14 := hS.c14.2
  have b16 := hS.c16.2
  have b29 := hS.c29.2
  have b30 := hS.c30.2
  have b31 := hS.c31.2
  have b48 := hS.c48.2
  have b49 := hS.c49.2
  have b50 := hS.c50.2
  have b51 := hS.c51.2
  have b77 := hS.c77.2
  have b78 := hS.c78.2
  have b79 := hS.c79.2
  have b82 := hS.c82.2
  refine Con.begin [some (.ref 20), some (.int k), some (.int w), none, none] rfl rfl (Nat.le_of_ble_eq_true rfl) rfl rfl (fun X C R => ?_)
  refine g_aload_n C (pc := 0) dX3_told_0 rfl rfl ?_
  refine g_iconst C (pc := 1) (v := 0) dX3_told_1 (by decide) ?_
  refine m_puti C 0 (pc := 2) dX3_told_2 rfl q1193 rfl rfl rfl ?_
  refine g_aload_n C (pc := 5) dX3_told_5 rfl rfl ?_
  refine g_iload_n C (pc := 6) dX3_told_6 rfl ?_
  refine g_callVD C (pc := 7) [.int k] [] dX3_told_7 (c_X3_isKey l D B K (sI S 0 0) h n k ) (lw_V q1492 q1494 qs38 q87 q1495) (wd_20 _ _ _) rfl rfl ds_X3_isKey ⟨rfl, rfl⟩ ⟨Nat.le_of_ble_eq_true rfl, Nat.le_of_ble_eq_true rfl⟩ rfl rfl ⟨Nat.le_of_ble_eq_true rfl, Nat.le_of_ble_eq_true rfl⟩ (Nat.le_of_ble_eq_true rfl) rfl ?_
  refine g_if_ne C (pc := 10) (tgt := 15) dX3_told_10 (by decide) (fun c_10 => ?_) (fun c_10 => ?_)
  · skip
    have c_10 : (isKey S k) := p2i_n0.mp c_10
    have hk40 := isKey.inr hS c_10
    refine g_iload_n C (pc := 15) dX3_told_15 rfl ?_
    by_cases cs_16_0 : w = 0
    · skip
      refine g_tableIn C (pc := 16) (tgt := 52) dX3_told_16 (by rw [cs_16_0]; decide) (by rw [cs_16_0]; decide) (by rw [cs_16_0]; rfl) (by decide) ?_
      refine g_aload_n C (pc := 52) dX3_told_52 rfl rfl ?_
      refine m_geta C 2 21 (pc := 53) dX3_told_53 (by decide) (fun _ => rfl) q1195 rfl ?_
      refine g_iload_n C (pc := 56) dX3_told_56 rfl ?_
      refine m_iald C (pc := 57) (v := (S.2.1 21) ((k).toNatClampNeg)) dX3_told_57 (by decide) rfl hk40 rfl ?_
      exact g_iretD C R dX3_told_58 (Nat.le_refl _) (Nat.le_refl _) (by unfold m_told; first | (rw [if_pos (by  grind)] <;> first | rfl | (simp [mN_sI_ne, sI_2, p2i, b2i, *]; done) | grind) | (rw [if_neg (by  grind)] <;> first | rfl | (simp [mN_sI_ne, sI_2, p2i, b2i, *]; done) | grind)) (congrArg (fun z => wd K z h) (rfl)) rfl
    by_cases cs_16_1 : w = 1
    · skip
      refine g_tableIn C (pc := 16) (tgt := 59) dX3_told_16 (by rw [cs_16_1]; decide) (by rw [cs_16_1]; decide) (by rw [cs_16_1]; rfl) (by decide) ?_
      refine g_aload_n C (pc := 59) dX3_told_59 rfl rfl ?_
      refine m_geta C 4 23 (pc := 60) dX3_told_60 (by decide) (fun _ => rfl) q1197 rfl ?_
      refine g_iload_n C (pc := 63) dX3_told_63 rfl ?_
      refine m_iald C (pc := 64) (v := (S.2.1 23) ((k).toNatClampNeg)) dX3_told_64 (by decide) rfl hk40 rfl ?_
      exact g_iretD C R dX3_told_65 (Nat.le_refl _) (Nat.le_refl _) (by unfold m_told; first | (rw [if_pos (by  grind)] <;> first | rfl | (simp [mN_sI_ne, sI_2, p2i, b2i, *]; done) | grind) | (rw [if_neg (by  grind)] <;> first | rfl | (simp [mN_sI_ne, sI_2, p2i, b2i, *]; done) | grind)) (congrArg (fun z => wd K z h) (rfl)) rfl
    by_cases cs_16_2 : w = 2
    · skip
      refine g_tableIn C (pc := 16) (tgt := 66) dX3_told_16 (by rw [cs_16_2]; decide) (by rw [cs_16_2]; decide) (by rw [cs_16_2]; rfl) (by decide) ?_
      refine g_aload_n C (pc := 66) dX3_told_66 rfl rfl ?_
      refine g_iload_n C (pc := 67) dX3_told_67 rfl ?_
      refine g_aload_n C (pc := 68) dX3_told_68 rfl rfl ?_
      refine m_geti C 1 (pc := 69) (v := S.1 1) dX3_told_69 rfl q1194 rfl rfl ?_
      refine g_callVD C (pc := 72) [.int k, .int (S.1 1)] [] dX3_told_72 (c_X3_burntFrom l D B K (sI S 0 0) h n k (S.1 1) (hS.setI 0 rfl)) (lw_V q1756 q1758 qs72 q87 q1759) (wd_20 _ _ _) rfl rfl ds_X3_burntFrom ⟨rfl, rfl⟩ ⟨Nat.le_of_ble_eq_true rfl, Nat.le_of_ble_eq_true rfl⟩ rfl rfl ⟨Nat.le_of_ble_eq_true rfl, Nat.le_of_ble_eq_true rfl⟩ (Nat.le_of_ble_eq_true rfl) rfl ?_
      exact g_iretD C R dX3_told_75 (Nat.le_refl _) (Nat.le_refl _) (by unfold m_told; rw [if_pos c_10, if_neg cs_16_0, if_neg cs_16_1, if_pos cs_16_2]; rfl) (congrArg (fun z => wd K z h) (rfl)) rfl
    by_cases cs_16_3 : w = 3
    · skip
      refine g_tableIn C (pc := 16) (tgt := 76) dX3_told_16 (by rw [cs_16_3]; decide) (by rw [cs_16_3]; decide) (by rw [cs_16_3]; rfl) (by decide) ?_
      refine g_aload_n C (pc := 76) dX3_told_76 rfl rfl ?_
      refine m_geta C 6 25 (pc := 77) dX3_told_77 (by decide) (fun _ => rfl) q1199 rfl ?_
      refine g_iload_n C (pc := 80) dX3_told_80 rfl ?_
      refine m_iald C (pc := 81) (v := (S.2.1 25) ((k).toNatClampNeg)) dX3_told_81 (by decide) rfl hk40 rfl ?_
      exact g_iretD C R dX3_told_82 (Nat.le_refl _) (Nat.le_refl _) (by unfold m_told; first | (rw [if_pos (by  grind)] <;> first | rfl | (simp [mN_sI_ne, sI_2, p2i, b2i, *]; done) | grind) | (rw [if_neg (by  grind)] <;> first | rfl | (simp [mN_sI_ne, sI_2, p2i, b2i, *]; done) | grind)) (congrArg (fun z => wd K z h) (rfl)) rfl
    by_cases cs_16_4 : w = 4
    · skip
      refine g_tableIn C (pc := 16) (tgt := 83) dX3_told_16 (by rw [cs_16_4]; decide) (by rw [cs_16_4]; decide) (by rw [cs_16_4]; rfl) (by decide) ?_
      refine g_iconst C (pc := 83) (v := (-1)) dX3_told_83 (by decide) ?_
      refine g_istore_n C (pc := 84) (L' := [some (.ref 20), some (.int k), some (.int w), some (.int (-1)), none]) dX3_told_84 (by decide) rfl rfl ?_
      refine g_iconst C (pc := 85) (v := 0) dX3_told_85 (by decide) ?_
      refine g_istore C (pc := 86) (L' := [some (.ref 20), some (.int k), some (.int w), some (.int (-1)), some (.int 0)]) dX3_told_86 (by decide) rfl rfl ?_
      have loop_88 : ∀ (d88 : Nat) (j : Nat) (x : Int32), (j ≤ (mN S 30)) → (x = toldP S.2.1 k (S.1 1) j) → (mN S 30) - j < d88 → G X D B (wd K (sI S 0 0) h) n 0 0 [some (.ref 20), some (.int k), some (.int w), some (.int x), some (.int (nI j))] 88 [] := by
        intro d88
        induction d88 with
        | zero =>
          intro j x hj hx hm88
          exact absurd hm88 (Nat.not_lt_zero _)
        | succ d88 ih88 =>
          intro j x hj hx hm88
          refine g_iload C (pc := 88) dX3_told_88 rfl ?_
          refine g_aload_n C (pc := 90) dX3_told_90 rfl rfl ?_
          refine m_geti C 30 (pc := 91) (v := nI (mN S 30)) dX3_told_91 rfl q1223 rfl hS.c30.1 ?_
          refine g_icmp_ge C (pc := 94) (tgt := 130) dX3_told_94 (by decide) (fun c_94 => ?_) (fun c_94 => ?_)
          · skip
            have c_94 : (mN S 30) ≤ j := Nat.not_lt.mp fun q => c_94 ((nI_ltI (a := j) (b := (mN S 30)) (by omega) (by omega)).mpr q)
            have hje : j = (mN S 30) := by omega
            subst hje
            refine g_iload_n C (pc := 130) dX3_told_130 rfl ?_
            exact g_iretD C R dX3_told_131 (Nat.le_refl _) (Nat.le_refl _) (by unfold m_told; first | (rw [if_pos (by  grind)] <;> first | rfl | (simp [mN_sI_ne, sI_2, p2i, b2i, *]; done) | grind) | (rw [if_neg (by  grind)] <;> first | rfl | (simp [mN_sI_ne, sI_2, p2i, b2i, *]; done) | grind)) (congrArg (fun z => wd K z h) (rfl)) rfl
          · skip
            have c_94 : j < (mN S 30) := (nI_ltI (a := j) (b := (mN S 30)) (by omega) (by omega)).mp c_94
            refine g_aload_n C (pc := 97) dX3_told_97 rfl rfl ?_
            refine m_geta C 21 36 (pc := 98) dX3_told_98 (by decide) (fun _ => rfl) q1214 rfl ?_
            refine g_iload C (pc := 101) dX3_told_101 rfl ?_
            refine m_iald C (pc := 103) (v := (S.2.1 36) j) dX3_told_103 (by decide) rfl (vp_in_nI (by omega) (by decide)) (gix (S.2.1 36) (by omega)) ?_
            refine g_iload_n C (pc := 104) dX3_told_104 rfl ?_
            refine g_icmp_ne C (pc := 105) (tgt := 124) dX3_told_105 (by decide) (fun c_105 => ?_) (fun c_105 => ?_)
            · skip
              have c_105 : ¬ (((S.2.1 36) j) : Int32) = k := c_105
              refine g_iinc C (pc := 124) (v := nI (j + 1)) (L' := [some (.ref 20), some (.int k), some (.int w), some (.int x), some (.int (nI (j + 1)))]) dX3_told_124 rfl (nI_inc _) (by decide) rfl rfl ?_
              refine g_goto C (pc := 127) (tgt := 88) dX3_told_127 (by decide) ?_
              refine G.mask [true, true, true, true, true] rfl ?_
              exact ih88 (j + 1) x (by omega) (by simp only [toldP]; rw [← hx]; first | (rw [if_pos (by grind)]) | (rw [if_neg (by grind)])) (by omega)
            · skip
              have c_105 : (((S.2.1 36) j) : Int32) = k := c_105
              refine g_aload_n C (pc := 108) dX3_told_108 rfl rfl ?_
              refine g_iload C (pc := 109) dX3_told_109 rfl ?_
              refine g_aload_n C (pc := 111) dX3_told_111 rfl rfl ?_
              refine m_geti C 1 (pc := 112) (v := S.1 1) dX3_told_112 rfl q1194 rfl rfl ?_
              refine g_callVD C (pc := 115) [.int (nI j), .int (S.1 1)] [] dX3_told_115 (c_X3_isForce l D B K (sI S 0 0) h n (nI j) (S.1 1) (vp_in_nI (by omega) (by decide))) (lw_V q1623 q1625 qs51 q87 q1626) (wd_20 _ _ _) rfl rfl ds_X3_isForce ⟨rfl, rfl⟩ ⟨Nat.le_of_ble_eq_true rfl, Nat.le_of_ble_eq_true rfl⟩ rfl rfl ⟨Nat.le_of_ble_eq_true rfl, Nat.le_of_ble_eq_true rfl⟩ (Nat.le_of_ble_eq_true rfl) rfl ?_
              refine g_if_eq C (pc := 118) (tgt := 124) dX3_told_118 (by decide) (fun c_118 => ?_) (fun c_118 => ?_)
              · skip
                have c_118 : ¬ (isForce S.2.1 (nI j).toNatClampNeg (S.1 1)) := p2i_0.mp c_118
                rw [nI_clamp (by omega)] at c_118
                refine g_iinc C (pc := 124) (v := nI (j + 1)) (L' := [some (.ref 20), some (.int k), some (.int w), some (.int x), some (.int (nI (j + 1)))]) dX3_told_124 rfl (nI_inc _) (by decide) rfl rfl ?_
                refine g_goto C (pc := 127) (tgt := 88) dX3_told_127 (by decide) ?_
                refine G.mask [true, true, true, true, true] rfl ?_
                exact ih88 (j + 1) x (by omega) (by simp only [toldP]; rw [← hx]; first | (rw [if_pos (by grind)]) | (rw [if_neg (by grind)])) (by omega)
              · skip
                have c_118 : (isForce S.2.1 (nI j).toNatClampNeg (S.1 1)) := p2i_n0.mp c_118
                rw [nI_clamp (by omega)] at c_118
                refine g_iload C (pc := 121) dX3_told_121 rfl ?_
                refine g_istore_n C (pc := 123) (L' := [some (.ref 20), some (.int k), some (.int w), some (.int (nI j)), some (.int (nI j))]) dX3_told_123 (by decide) rfl rfl ?_
                refine g_iinc C (pc := 124) (v := nI (j + 1)) (L' := [some (.ref 20), some (.int k), some (.int w), some (.int (nI j)), some (.int (nI (j + 1)))]) dX3_told_124 rfl (nI_inc _) (by decide) rfl rfl ?_
                refine g_goto C (pc := 127) (tgt := 88) dX3_told_127 (by decide) ?_
                refine G.mask [true, true, true, true, true] rfl ?_
                exact ih88 (j + 1) (nI j) (by omega) (by simp only [toldP]; rw [← hx]; first | (rw [if_pos (by grind)]) | (rw [if_neg (by grind)])) (by omega)
      refine G.mask [true, true, true, true, true] rfl ?_
      exact loop_88 _ 0 (-1) (Nat.zero_le _) (rfl) (Nat.lt_succ_self _)
    refine g_tableOut C (pc := 16) (tgt := 132) dX3_told_16 (sw_out5 cs_16_0 cs_16_1 cs_16_2 cs_16_3 cs_16_4) (by decide) ?_
    refine g_iconst C (pc := 132) (v := (-1)) dX3_told_132 (by decide) ?_
    exact g_iretD C R dX3_told_133 (Nat.le_refl _) (Nat.le_refl _) (by unfold m_told; first | (rw [if_pos (by  grind)] <;> first | rfl | (simp [mN_sI_ne, sI_2, p2i, b2i, *]; done) | grind) | (rw [if_neg (by  grind)] <;> first | rfl | (simp [mN_sI_ne, sI_2, p2i, b2i, *]; done) | grind)) (congrArg (fun z => wd K z h) (rfl)) rfl
  · skip
    have c_10 : ¬ (isKey S k) := p2i_0.mp c_10
    refine g_iconst C (pc := 13) (v := (-1)) dX3_told_13 (by decide) ?_
    exact g_iretD C R dX3_told_14 (Nat.le_refl _) (Nat.le_refl _) (by unfold m_told; first | (rw [if_pos (by  grind)] <;> first | rfl | (simp [mN_sI_ne, sI_2, p2i, b2i, *]; done) | grind) | (rw [if_neg (by  grind)] <;> first | rfl | (simp [mN_sI_ne, sI_2, p2i, b2i, *]; done) | grind)) (congrArg (fun z => wd K z h) (rfl)) rfl
theorem ds_X3_told : yX3_told.cls ≠ "java/lang/invoke/MethodHandle" ∧ yX3_told.cls ≠ "java/lang/invoke/VarHandle" ∧ (parseMethodDescriptor yX3_told.desc).map (fun d => d.parameters.length) = some 2 := by decide +kernel
set_option maxHeartbeats 4000000 in
set_option maxRecDepth 100000 in
theorem c_X3_fall (l : Launch) (D : gD) (B : Nat × Nat) (K : KS) (S : MS) (h : gHp) (n : Nat) (s : Int32) (hS : MOK S) : Con l yX3_fall (ws_ yX3_fall cX3_fall 2 (some .int)) ({ frames := 1, cells := 0, slots := 0, locals := 22 }) D B [.ref 20, .int s] (wd K S h) n (gdt (some (.int ((m_fall S s).2))) (wd K ((m_fall S s).1) h) n) 0 0 := by
  have b12 := hS.c12.2
  have b13 := hS.c13.2
  have b14 := hS.c14.2
  have b16 := hS.c16.2
  have b29 := hS.c29.2
  have b30 := hS.c30.2
  have b31 := hS.c31.2
  have b48 := hS.c48.2
  have b49 := hS.c49.2
  have b50 := hS.c50.2
  have b51 := hS.c51.2
  have b77 := hS.c77.2
  have b78 := hS.c78.2
  have b79 := hS.c79.2
  have b82 := hS.c82.2
  refine Con.begin [some (.ref 20), some (.int s)] rfl rfl (Nat.le_of_ble_eq_true rfl) rfl rfl (fun X C R => ?_)
  refine g_aload_n C (pc := 0) dX3_fall_0 rfl rfl ?_
  refine g_iconst C (pc := 1) (v := 0) dX3_fall_1 (by decide) ?_
  refine m_puti C 0 (pc := 2) dX3_fall_2 rfl q1193 rfl rfl rfl ?_
  refine g_aload_n C (pc := 5) dX3_fall_5 rfl rfl ?_
  refine m_geti C 82 (pc := 6) (v := nI (mN S 82)) dX3_fall_6 rfl q1275 rfl hS.c82.1 ?_
  refine g_bipush C (pc := 9) (v := 20) dX3_fall_9 (by decide) ?_
  refine g_icmp_eq C (pc := 11) (tgt := 23) dX3_fall_11 (by decide) (fun c_11 => ?_) (fun c_11 => ?_)
  · skip
    have c_11 : (mN S 82) = 20 := (nI_eq (a := (mN S 82)) (b := 20) (by omega) (by omega)).mp c_11
    refine g_iconst C (pc := 23) (v := (-1)) dX3_fall_23 (by decide) ?_
    exact g_iretD C R dX3_fall_24 (Nat.le_refl _) (Nat.le_refl _) (by unfold m_fall; first | (rw [if_pos (by  grind)] <;> first | rfl | (simp [mN_sI_ne, sI_2, p2i, b2i, *]; done) | grind) | (rw [if_neg (by  grind)] <;> first | rfl | (simp [mN_sI_ne, sI_2, p2i, b2i, *]; done) | grind)) (congrArg (fun z => wd K z h) (by unfold m_fall; first | (rw [if_pos (by  grind)] <;> first | rfl | (simp [mN_sI_ne, sI_2, p2i, b2i, *]; done) | grind) | (rw [if_neg (by  grind)] <;> first | rfl | (simp [mN_sI_ne, sI_2, p2i, b2i, *]; done) | grind))) rfl
  · skip
    have c_11 : ¬ (mN S 82) = 20 := fun q => c_11 ((nI_eq (a := (mN S 82)) (b := 20) (by omega) (by omega)).mpr q)
    refine g_aload_n C (pc := 14) dX3_fall_14 rfl rfl ?_
    refine g_iload_n C (pc := 15) dX3_fall_15 rfl ?_
    refine g_iconst C (pc := 16) (v := 1) dX3_fall_16 (by decide) ?_
    refine g_callVD C (pc := 17) [.int s, .int 1] [] dX3_fall_17 (c_X3_areHolders l D B K (sI S 0 0) h n s 1 ) (lw_V q1538 q1540 qs42 q87 q1541) (wd_20 _ _ _) rfl rfl ds_X3_areHolders ⟨rfl, rfl⟩ ⟨Nat.le_of_ble_eq_true rfl, Nat.le_of_ble_eq_true rfl⟩ rfl rfl ⟨Nat.le_of_ble_eq_true rfl, Nat.le_of_ble_eq_true rfl⟩ (Nat.le_of_ble_eq_true rfl) rfl ?_
    refine g_if_ne C (pc := 20) (tgt := 25) dX3_fall_20 (by decide) (fun c_20 => ?_) (fun c_20 => ?_)
    · skip
      have c_20 : (areHolders S s 1) := p2i_n0.mp c_20
      refine g_aload_n C (pc := 25) dX3_fall_25 rfl rfl ?_
      refine m_geta C 80 74 (pc := 26) dX3_fall_26 (by decide) (fun _ => rfl) q1273 rfl ?_
      refine g_aload_n C (pc := 29) dX3_fall_29 rfl rfl ?_
      refine m_geti C 82 (pc := 30) (v := nI (mN S 82)) dX3_fall_30 rfl q1275 rfl hS.c82.1 ?_
      refine g_iload_n C (pc := 33) dX3_fall_33 rfl ?_
      refine m_iast C (pc := 34) (j := (mN S 82)) dX3_fall_34 (by decide) rfl (vp_in_nI (by omega) (by decide)) (nI_clamp (by omega)) ?_
      refine g_aload_n C (pc := 35) dX3_fall_35 rfl rfl ?_
      refine g_dup C (pc := 36) dX3_fall_36 rfl ?_
      refine m_geti C 82 (pc := 37) (v := nI (mN S 82)) dX3_fall_37 rfl q1275 rfl hS.c82.1 ?_
      refine g_iconst C (pc := 40) (v := 1) dX3_fall_40 (by decide) ?_
      refine g_iadd C (pc := 41) dX3_fall_41 ?_
      refine G.topc (nI_1 _) ?_
      refine m_puti C 82 (pc := 42) dX3_fall_42 rfl q1275 rfl rfl rfl ?_
      refine g_aload_n C (pc := 45) dX3_fall_45 rfl rfl ?_
      refine m_geti C 82 (pc := 46) (v := nI ((mN S 82) + 1)) dX3_fall_46 rfl q1275 rfl rfl ?_
      refine g_iconst C (pc := 49) (v := 1) dX3_fall_49 (by decide) ?_
      refine g_isub C (pc := 50) dX3_fall_50 ?_
      refine G.topc (nI_pred _) ?_
      exact g_iretD C R dX3_fall_51 (Nat.le_refl _) (Nat.le_refl _) (by unfold m_fall; first | (rw [if_pos (by  grind)] <;> first | rfl | (simp [mN_sI_ne, sI_2, p2i, b2i, *]; done) | grind) | (rw [if_neg (by  grind)] <;> first | rfl | (simp [mN_sI_ne, sI_2, p2i, b2i, *]; done) | grind)) (congrArg (fun z => wd K z h) (by unfold m_fall; first | (rw [if_pos (by  grind)] <;> first | rfl | (simp [mN_sI_ne, sI_2, p2i, b2i, *]; done) | grind) | (rw [if_neg (by  grind)] <;> first | rfl | (simp [mN_sI_ne, sI_2, p2i, b2i, *]; done) | grind))) rfl
    · skip
      have c_20 : ¬ (areHolders S s 1) := p2i_0.mp c_20
      refine g_iconst C (pc := 23) (v := (-1)) dX3_fall_23 (by decide) ?_
      exact g_iretD C R dX3_fall_24 (Nat.le_refl _) (Nat.le_refl _) (by unfold m_fall; first | (rw [if_pos (by  grind)] <;> first | rfl | (simp [mN_sI_ne, sI_2, p2i, b2i, *]; done) | grind) | (rw [if_neg (by  grind)] <;> first | rfl | (simp [mN_sI_ne, sI_2, p2i, b2i, *]; done) | grind)) (congrArg (fun z => wd K z h) (by unfold m_fall; first | (rw [if_pos (by  grind)] <;> first | rfl | (simp [mN_sI_ne, sI_2, p2i, b2i, *]; done) | grind) | (rw [if_neg (by  grind)] <;> first | rfl | (simp [mN_sI_ne, sI_2, p2i, b2i, *]; done) | grind))) rfl
theorem ds_X3_fall : yX3_fall.cls ≠ "java/lang/invoke/MethodHandle" ∧ yX3_fall.cls ≠ "java/lang/invoke/VarHandle" ∧ (parseMethodDescriptor yX3_fall.desc).map (fun d => d.parameters.length) = some 1 := by decide +kernel
set_option maxHeartbeats 4000000 in
set_option maxRecDepth 100000 in
theorem c_X3_count (l : Launch) (D : gD) (B : Nat × Nat) (K : KS) (S : MS) (h : gHp) (n : Nat) (w : Int32) (hS : MOK S) : Con l yX3_count (ws_ yX3_count cX3_count 4 (some .int)) ({ frames := 0, cells := 0, slots := 0, locals := 0 }) D B [.ref 20, .int w] (wd K S h) n (gdt (some (.int (m_count S w))) (wd K ((sI S 0 0)) h) n) 0 0 := by
  have b12 := hS.c12.2
  have b13 := hS.c13.2
  have b14 := hS.c14.2
  have b16 := hS.c16.2
  have b29 := hS.c29.2
  have b30 := hS.c30.2
  have b31 := hS.c31.2
  have b48 := hS.c48.2
  have b49 := hS.c49.2
  have b50 := hS.c50.2
  have b51 := hS.c51.2
  have b77 := hS.c77.2
  have b78 := hS.c78.2
  have b79 := hS.c79.2
  have b82 := hS.c82.2
  refine Con.begin [some (.ref 20), some (.int w), none, none] rfl rfl (Nat.le_of_ble_eq_true rfl) rfl rfl (fun X C R => ?_)
  refine g_aload_n C (pc := 0) dX3_count_0 rfl rfl ?_
  refine g_iconst C (pc := 1) (v := 0) dX3_count_1 (by decide) ?_
  refine m_puti C 0 (pc := 2) dX3_count_2 rfl q1193 rfl rfl rfl ?_
  refine g_iconst C (pc := 5) (v := 0) dX3_count_5 (by decide) ?_
  refine g_istore_n C (pc := 6) (L' := [some (.ref 20), some (.int w), some (.int 0), none]) dX3_count_6 (by decide) rfl rfl ?_
  refine g_iload_n C (pc := 7) dX3_count_7 rfl ?_
  by_cases cs_8_0 : w = 0
  · skip
    refine g_tableIn C (pc := 8) (tgt := 80) dX3_count_8 (by rw [cs_8_0]; decide) (by rw [cs_8_0]; decide) (by rw [cs_8_0]; rfl) (by decide) ?_
    refine g_aload_n C (pc := 80) dX3_count_80 rfl rfl ?_
    refine m_geti C 1 (pc := 81) (v := S.1 1) dX3_count_81 rfl q1194 rfl rfl ?_
    exact g_iretD C R dX3_count_84 (Nat.le_refl _) (Nat.le_refl _) (by unfold m_count; simp [*]) (congrArg (fun z => wd K z h) (rfl)) rfl
  by_cases cs_8_1 : w = 1
  · skip
    refine g_tableIn C (pc := 8) (tgt := 85) dX3_count_8 (by rw [cs_8_1]; decide) (by rw [cs_8_1]; decide) (by rw [cs_8_1]; rfl) (by decide) ?_
    refine g_aload_n C (pc := 85) dX3_count_85 rfl rfl ?_
    refine m_geti C 12 (pc := 86) (v := nI (mN S 12)) dX3_count_86 rfl q1205 rfl hS.c12.1 ?_
    exact g_iretD C R dX3_count_89 (Nat.le_refl _) (Nat.le_refl _) (by unfold m_count; simp [*]) (congrArg (fun z => wd K z h) (rfl)) rfl
  by_cases cs_8_2 : w = 2
  · skip
    refine g_tableIn C (pc := 8) (tgt := 90) dX3_count_8 (by rw [cs_8_2]; decide) (by rw [cs_8_2]; decide) (by rw [cs_8_2]; rfl) (by decide) ?_
    refine g_aload_n C (pc := 90) dX3_count_90 rfl rfl ?_
    refine m_geti C 13 (pc := 91) (v := nI (mN S 13)) dX3_count_91 rfl q1206 rfl hS.c13.1 ?_
    exact g_iretD C R dX3_count_94 (Nat.le_refl _) (Nat.le_refl _) (by unfold m_count; simp [*]) (congrArg (fun z => wd K z h) (rfl)) rfl
  by_cases cs_8_3 : w = 3
  · skip
    refine g_tableIn C (pc := 8) (tgt := 95) dX3_count_8 (by rw [cs_8_3]; decide) (by rw [cs_8_3]; decide) (by rw [cs_8_3]; rfl) (by decide) ?_
    refine g_aload_n C (pc := 95) dX3_count_95 rfl rfl ?_
    refine m_geti C 30 (pc := 96) (v := nI (mN S 30)) dX3_count_96 rfl q1223 rfl hS.c30.1 ?_
    exact g_iretD C R dX3_count_99 (Nat.le_refl _) (Nat.le_refl _) (by unfold m_count; simp [*]) (congrArg (fun z => wd K z h) (rfl)) rfl
  by_cases cs_8_4 : w = 4
  · skip
    refine g_tableIn C (pc := 8) (tgt := 100) dX3_count_8 (by rw [cs_8_4]; decide) (by rw [cs_8_4]; decide) (by rw [cs_8_4]; rfl) (by decide) ?_
    refine g_iconst C (pc := 100) (v := 0) dX3_count_100 (by decide) ?_
    refine g_istore_n C (pc := 101) (L' := [some (.ref 20), some (.int w), some (.int 0), some (.int 0)]) dX3_count_101 (by decide) rfl rfl ?_
    have loop_102 : ∀ (d102 : Nat) (j : Nat) (x : Int32), (j ≤ (mN S 29)) → (x = nI (cntW S.2.1 j)) → (mN S 29) - j < d102 → G X D B (wd K (sI S 0 0) h) n 0 0 [some (.ref 20), some (.int w), some (.int x), some (.int (nI j))] 102 [] := by
      intro d102
      induction d102 with
      | zero =>
        intro j x hj hx hm102
        exact absurd hm102 (Nat.not_lt_zero _)
      | succ d102 ih102 =>
        intro j x hj hx hm102
        refine g_iload_n C (pc := 102) dX3_count_102 rfl ?_
        refine g_aload_n C (pc := 103) dX3_count_103 rfl rfl ?_
        refine m_geti C 29 (pc := 104) (v := nI (mN S 29)) dX3_count_104 rfl q1222 rfl hS.c29.1 ?_
        refine g_icmp_ge C (pc := 107) (tgt := 136) dX3_count_107 (by decide) (fun c_107 => ?_) (fun c_107 => ?_)
        · skip
          have c_107 : (mN S 29) ≤ j := Nat.not_lt.mp fun q => c_107 ((nI_ltI (a := j) (b := (mN S 29)) (by omega) (by omega)).mpr q)
          have hje : j = (mN S 29) := by omega
          subst hje
          refine g_iload_n C (pc := 136) dX3_count_136 rfl ?_
          exact g_iretD C R dX3_count_137 (Nat.le_refl _) (Nat.le_refl _) (by unfold m_count; simp [*]) (congrArg (fun z => wd K z h) (rfl)) rfl
        · skip
          have c_107 : j < (mN S 29) := (nI_ltI (a := j) (b := (mN S 29)) (by omega) (by omega)).mp c_107
          subst hx
          refine g_iload_n C (pc := 110) dX3_count_110 rfl ?_
          refine g_aload_n C (pc := 111) dX3_count_111 rfl rfl ?_
          refine m_geta C 20 35 (pc := 112) dX3_count_112 (by decide) (fun _ => rfl) q1213 rfl ?_
          refine g_iload_n C (pc := 115) dX3_count_115 rfl ?_
          refine m_iald C (pc := 116) (v := (S.2.1 35) j) dX3_count_116 (by decide) rfl (vp_in_nI (by omega) (by decide)) (gix (S.2.1 35) (by omega)) ?_
          refine g_sipush C (pc := 117) (v := 9999) dX3_count_117 (by decide) ?_
          refine g_icmp_ne C (pc := 120) (tgt := 127) dX3_count_120 (by decide) (fun c_120 => ?_) (fun c_120 => ?_)
          · skip
            have c_120 : ¬ (((S.2.1 35) j) : Int32) = 9999 := c_120
            refine g_iconst C (pc := 127) (v := 0) dX3_count_127 (by decide) ?_
            refine g_iadd C (pc := 128) dX3_count_128 ?_
            refine G.topc (Int32.add_zero _) ?_
            refine g_istore_n C (pc := 129) (L' := [some (.ref 20), some (.int w), some (.int (nI (cntW S.2.1 j))), some (.int (nI j))]) dX3_count_129 (by decide) rfl rfl ?_
            refine g_iinc C (pc := 130) (v := nI (j + 1)) (L' := [some (.ref 20), some (.int w), some (.int (nI (cntW S.2.1 j))), some (.int (nI (j + 1)))]) dX3_count_130 rfl (nI_inc _) (by decide) rfl rfl ?_
            refine g_goto C (pc := 133) (tgt := 102) dX3_count_133 (by decide) ?_
            refine G.mask [true, true, true, true] rfl ?_
            exact ih102 (j + 1) (nI (cntW S.2.1 j)) (by omega) (by simp only [cntW]; first | (rw [if_pos (by assumption)]; done) | (rw [if_neg (by assumption)]; done) | (rw [if_pos (by assumption)]; rfl) | (rw [if_neg (by assumption)]; rfl)) (by omega)
          · skip
            have c_120 : (((S.2.1 35) j) : Int32) = 9999 := c_120
            refine g_iconst C (pc := 123) (v := 1) dX3_count_123 (by decide) ?_
            refine g_goto C (pc := 124) (tgt := 128) dX3_count_124 (by decide) ?_
            refine g_iadd C (pc := 128) dX3_count_128 ?_
            refine G.topc (nI_1 _) ?_
            refine g_istore_n C (pc := 129) (L' := [some (.ref 20), some (.int w), some (.int (nI ((cntW S.2.1 j) + 1))), some (.int (nI j))]) dX3_count_129 (by decide) rfl rfl ?_
            refine g_iinc C (pc := 130) (v := nI (j + 1)) (L' := [some (.ref 20), some (.int w), some (.int (nI ((cntW S.2.1 j) + 1))), some (.int (nI (j + 1)))]) dX3_count_130 rfl (nI_inc _) (by decide) rfl rfl ?_
            refine g_goto C (pc := 133) (tgt := 102) dX3_count_133 (by decide) ?_
            refine G.mask [true, true, true, true] rfl ?_
            exact ih102 (j + 1) (nI ((cntW S.2.1 j) + 1)) (by omega) (by simp only [cntW]; first | (rw [if_pos (by assumption)]; done) | (rw [if_neg (by assumption)]; done) | (rw [if_pos (by assumption)]; rfl) | (rw [if_neg (by assumption)]; rfl)) (by omega)
    refine G.mask [true, true, true, true] rfl ?_
    exact loop_102 _ 0 0 (Nat.zero_le _) (rfl) (Nat.lt_succ_self _)
  by_cases cs_8_5 : w = 5
  · skip
    refine g_tableIn C (pc := 8) (tgt := 138) dX3_count_8 (by rw [cs_8_5]; decide) (by rw [cs_8_5]; decide) (by rw [cs_8_5]; rfl) (by decide) ?_
    refine g_aload_n C (pc := 138) dX3_count_138 rfl rfl ?_
    refine m_geti C 48 (pc := 139) (v := nI (mN S 48)) dX3_count_139 rfl q1241 rfl hS.c48.1 ?_
    exact g_iretD C R dX3_count_142 (Nat.le_refl _) (Nat.le_refl _) (by unfold m_count; simp [*]) (congrArg (fun z => wd K z h) (rfl)) rfl
  by_cases cs_8_6 : w = 6
  · skip
    refine g_tableIn C (pc := 8) (tgt := 143) dX3_count_8 (by rw [cs_8_6]; decide) (by rw [cs_8_6]; decide) (by rw [cs_8_6]; rfl) (by decide) ?_
    refine g_aload_n C (pc := 143) dX3_count_143 rfl rfl ?_
    refine m_geti C 50 (pc := 144) (v := nI (mN S 50)) dX3_count_144 rfl q1243 rfl hS.c50.1 ?_
    exact g_iretD C R dX3_count_147 (Nat.le_refl _) (Nat.le_refl _) (by unfold m_count; simp [*]) (congrArg (fun z => wd K z h) (rfl)) rfl
  by_cases cs_8_7 : w = 7
  · skip
    refine g_tableIn C (pc := 8) (tgt := 148) dX3_count_8 (by rw [cs_8_7]; decide) (by rw [cs_8_7]; decide) (by rw [cs_8_7]; rfl) (by decide) ?_
    refine g_aload_n C (pc := 148) dX3_count_148 rfl rfl ?_
    refine m_geti C 51 (pc := 149) (v := nI (mN S 51)) dX3_count_149 rfl q1244 rfl hS.c51.1 ?_
    exact g_iretD C R dX3_count_152 (Nat.le_refl _) (Nat.le_refl _) (by unfold m_count; simp [*]) (congrArg (fun z => wd K z h) (rfl)) rfl
  by_cases cs_8_8 : w = 8
  · skip
    refine g_tableIn C (pc := 8) (tgt := 153) dX3_count_8 (by rw [cs_8_8]; decide) (by rw [cs_8_8]; decide) (by rw [cs_8_8]; rfl) (by decide) ?_
    refine g_aload_n C (pc := 153) dX3_count_153 rfl rfl ?_
    refine m_geti C 77 (pc := 154) (v := nI (mN S 77)) dX3_count_154 rfl q1270 rfl hS.c77.1 ?_
    exact g_iretD C R dX3_count_157 (Nat.le_refl _) (Nat.le_refl _) (by unfold m_count; simp [*]) (congrArg (fun z => wd K z h) (rfl)) rfl
  by_cases cs_8_9 : w = 9
  · skip
    refine g_tableIn C (pc := 8) (tgt := 158) dX3_count_8 (by rw [cs_8_9]; decide) (by rw [cs_8_9]; decide) (by rw [cs_8_9]; rfl) (by decide) ?_
    refine g_iconst C (pc := 158) (v := 0) dX3_count_158 (by decide) ?_
    refine g_istore_n C (pc := 159) (L' := [some (.ref 20), some (.int w), some (.int 0), some (.int 0)]) dX3_count_159 (by decide) rfl rfl ?_
    have loop_160 : ∀ (d160 : Nat) (j : Nat) (x : Int32), (j ≤ (mN S 79)) → (x = nI (cntL S.2.1 j)) → (mN S 79) - j < d160 → G X D B (wd K (sI S 0 0) h) n 0 0 [some (.ref 20), some (.int w), some (.int x), some (.int (nI j))] 160 [] := by
      intro d160
      induction d160 with
      | zero =>
        intro j x hj hx hm160
        exact absurd hm160 (Nat.not_lt_zero _)
      | succ d160 ih160 =>
        intro j x hj hx hm160
        refine g_iload_n C (pc := 160) dX3_count_160 rfl ?_
        refine g_aload_n C (pc := 161) dX3_count_161 rfl rfl ?_
        refine m_geti C 79 (pc := 162) (v := nI (mN S 79)) dX3_count_162 rfl q1272 rfl hS.c79.1 ?_
        refine g_icmp_ge C (pc := 165) (tgt := 191) dX3_count_165 (by decide) (fun c_165 => ?_) (fun c_165 => ?_)
        · skip
          have c_165 : (mN S 79) ≤ j := Nat.not_lt.mp fun q => c_165 ((nI_ltI (a := j) (b := (mN S 79)) (by omega) (by omega)).mpr q)
          have hje : j = (mN S 79) := by omega
          subst hje
          refine g_iload_n C (pc := 191) dX3_count_191 rfl ?_
          exact g_iretD C R dX3_count_192 (Nat.le_refl _) (Nat.le_refl _) (by unfold m_count; simp [*]) (congrArg (fun z => wd K z h) (rfl)) rfl
        · skip
          have c_165 : j < (mN S 79) := (nI_ltI (a := j) (b := (mN S 79)) (by omega) (by omega)).mp c_165
          subst hx
          refine g_iload_n C (pc := 168) dX3_count_168 rfl ?_
          refine g_aload_n C (pc := 169) dX3_count_169 rfl rfl ?_
          refine m_geta C 76 73 (pc := 170) dX3_count_170 (by decide) (fun _ => rfl) q1269 rfl ?_
          refine g_iload_n C (pc := 173) dX3_count_173 rfl ?_
          refine m_zald C (pc := 174) (v := nb ((S.2.1 73) j)) dX3_count_174 (by decide) rfl (vp_in_nI (by omega) (by decide)) (congrArg nb (gix (S.2.1 73) (by omega))) ?_
          refine g_if_eq C (pc := 175) (tgt := 182) dX3_count_175 (by decide) (fun c_175 => ?_) (fun c_175 => ?_)
          · skip
            have c_175 := nb_0.mp c_175
            refine g_iconst C (pc := 182) (v := 1) dX3_count_182 (by decide) ?_
            refine g_iadd C (pc := 183) dX3_count_183 ?_
            refine G.topc (nI_1 _) ?_
            refine g_istore_n C (pc := 184) (L' := [some (.ref 20), some (.int w), some (.int (nI ((cntL S.2.1 j) + 1))), some (.int (nI j))]) dX3_count_184 (by decide) rfl rfl ?_
            refine g_iinc C (pc := 185) (v := nI (j + 1)) (L' := [some (.ref 20), some (.int w), some (.int (nI ((cntL S.2.1 j) + 1))), some (.int (nI (j + 1)))]) dX3_count_185 rfl (nI_inc _) (by decide) rfl rfl ?_
            refine g_goto C (pc := 188) (tgt := 160) dX3_count_188 (by decide) ?_
            refine G.mask [true, true, true, true] rfl ?_
            exact ih160 (j + 1) (nI ((cntL S.2.1 j) + 1)) (by omega) (by simp only [cntL]; first | (rw [if_pos (by assumption)]; done) | (rw [if_neg (by assumption)]; done) | (rw [if_pos (by assumption)]; rfl) | (rw [if_neg (by assumption)]; rfl)) (by omega)
          · skip
            have c_175 := nb_n0.mp c_175
            refine g_iconst C (pc := 178) (v := 0) dX3_count_178 (by decide) ?_
            refine g_goto C (pc := 179) (tgt := 183) dX3_count_179 (by decide) ?_
            refine g_iadd C (pc := 183) dX3_count_183 ?_
            refine G.topc (Int32.add_zero _) ?_
            refine g_istore_n C (pc := 184) (L' := [some (.ref 20), some (.int w), some (.int (nI (cntL S.2.1 j))), some (.int (nI j))]) dX3_count_184 (by decide) rfl rfl ?_
            refine g_iinc C (pc := 185) (v := nI (j + 1)) (L' := [some (.ref 20), some (.int w), some (.int (nI (cntL S.2.1 j))), some (.int (nI (j + 1)))]) dX3_count_185 rfl (nI_inc _) (by decide) rfl rfl ?_
            refine g_goto C (pc := 188) (tgt := 160) dX3_count_188 (by decide) ?_
            refine G.mask [true, true, true, true] rfl ?_
            exact ih160 (j + 1) (nI (cntL S.2.1 j)) (by omega) (by simp only [cntL]; first | (rw [if_pos (by assumption)]; done) | (rw [if_neg (by assumption)]; done) | (rw [if_pos (by assumption)]; rfl) | (rw [if_neg (by assumption)]; rfl)) (by omega)
    refine G.mask [true, true, true, true] rfl ?_
    exact loop_160 _ 0 0 (Nat.zero_le _) (rfl) (Nat.lt_succ_self _)
  by_cases cs_8_10 : w = 10
  · skip
    refine g_tableIn C (pc := 8) (tgt := 193) dX3_count_8 (by rw [cs_8_10]; decide) (by rw [cs_8_10]; decide) (by rw [cs_8_10]; rfl) (by decide) ?_
    refine g_aload_n C (pc := 193) dX3_count_193 rfl rfl ?_
    refine m_geti C 82 (pc := 194) (v := nI (mN S 82)) dX3_count_194 rfl q1275 rfl hS.c82.1 ?_
    exact g_iretD C R dX3_count_197 (Nat.le_refl _) (Nat.le_refl _) (by unfold m_count; simp [*]) (congrArg (fun z => wd K z h) (rfl)) rfl
  by_cases cs_8_11 : w = 11
  · skip
    refine g_tableIn C (pc := 8) (tgt := 198) dX3_count_8 (by rw [cs_8_11]; decide) (by rw [cs_8_11]; decide) (by rw [cs_8_11]; rfl) (by decide) ?_
    refine g_aload_n C (pc := 198) dX3_count_198 rfl rfl ?_
    refine m_geti C 16 (pc := 199) (v := nI (mN S 16)) dX3_count_199 rfl q1209 rfl hS.c16.1 ?_
    exact g_iretD C R dX3_count_202 (Nat.le_refl _) (Nat.le_refl _) (by unfold m_count; simp [*]) (congrArg (fun z => wd K z h) (rfl)) rfl
  by_cases cs_8_12 : w = 12
  · skip
    refine g_tableIn C (pc := 8) (tgt := 203) dX3_count_8 (by rw [cs_8_12]; decide) (by rw [cs_8_12]; decide) (by rw [cs_8_12]; rfl) (by decide) ?_
    refine g_aload_n C (pc := 203) dX3_count_203 rfl rfl ?_
    refine m_geti C 31 (pc := 204) (v := nI (mN S 31)) dX3_count_204 rfl q1224 rfl hS.c31.1 ?_
    exact g_iretD C R dX3_count_207 (Nat.le_refl _) (Nat.le_refl _) (by unfold m_count; simp [*]) (congrArg (fun z => wd K z h) (rfl)) rfl
  by_cases cs_8_13 : w = 13
  · skip
    refine g_tableIn C (pc := 8) (tgt := 208) dX3_count_8 (by rw [cs_8_13]; decide) (by rw [cs_8_13]; decide) (by rw [cs_8_13]; rfl) (by decide) ?_
    refine g_iconst C (pc := 208) (v := 0) dX3_count_208 (by decide) ?_
    refine g_istore_n C (pc := 209) (L' := [some (.ref 20), some (.int w), some (.int 0), some (.int 0)]) dX3_count_209 (by decide) rfl rfl ?_
    have loop_210 : ∀ (d210 : Nat) (j : Nat) (x : Int32), (j ≤ (mN S 50)) → (x = nI (cntT S.2.1 j)) → (mN S 50) - j < d210 → G X D B (wd K (sI S 0 0) h) n 0 0 [some (.ref 20), some (.int w), some (.int x), some (.int (nI j))] 210 [] := by
      intro d210
      induction d210 with
      | zero =>
        intro j x hj hx hm210
        exact absurd hm210 (Nat.not_lt_zero _)
      | succ d210 ih210 =>
        intro j x hj hx hm210
        refine g_iload_n C (pc := 210) dX3_count_210 rfl ?_
        refine g_aload_n C (pc := 211) dX3_count_211 rfl rfl ?_
        refine m_geti C 50 (pc := 212) (v := nI (mN S 50)) dX3_count_212 rfl q1243 rfl hS.c50.1 ?_
        refine g_icmp_ge C (pc := 215) (tgt := 241) dX3_count_215 (by decide) (fun c_215 => ?_) (fun c_215 => ?_)
        · skip
          have c_215 : (mN S 50) ≤ j := Nat.not_lt.mp fun q => c_215 ((nI_ltI (a := j) (b := (mN S 50)) (by omega) (by omega)).mpr q)
          have hje : j = (mN S 50) := by omega
          subst hje
          refine g_iload_n C (pc := 241) dX3_count_241 rfl ?_
          exact g_iretD C R dX3_count_242 (Nat.le_refl _) (Nat.le_refl _) (by unfold m_count; simp [*]) (congrArg (fun z => wd K z h) (rfl)) rfl
        · skip
          have c_215 : j < (mN S 50) := (nI_ltI (a := j) (b := (mN S 50)) (by omega) (by omega)).mp c_215
          subst hx
          refine g_iload_n C (pc := 218) dX3_count_218 rfl ?_
          refine g_aload_n C (pc := 219) dX3_count_219 rfl rfl ?_
          refine m_geta C 45 57 (pc := 220) dX3_count_220 (by decide) (fun _ => rfl) q1238 rfl ?_
          refine g_iload_n C (pc := 223) dX3_count_223 rfl ?_
          refine m_zald C (pc := 224) (v := nb ((S.2.1 57) j)) dX3_count_224 (by decide) rfl (vp_in_nI (by omega) (by decide)) (congrArg nb (gix (S.2.1 57) (by omega))) ?_
          refine g_if_eq C (pc := 225) (tgt := 232) dX3_count_225 (by decide) (fun c_225 => ?_) (fun c_225 => ?_)
          · skip
            have c_225 := nb_0.mp c_225
            refine g_iconst C (pc := 232) (v := 0) dX3_count_232 (by decide) ?_
            refine g_iadd C (pc := 233) dX3_count_233 ?_
            refine G.topc (Int32.add_zero _) ?_
            refine g_istore_n C (pc := 234) (L' := [some (.ref 20), some (.int w), some (.int (nI (cntT S.2.1 j))), some (.int (nI j))]) dX3_count_234 (by decide) rfl rfl ?_
            refine g_iinc C (pc := 235) (v := nI (j + 1)) (L' := [some (.ref 20), some (.int w), some (.int (nI (cntT S.2.1 j))), some (.int (nI (j + 1)))]) dX3_count_235 rfl (nI_inc _) (by decide) rfl rfl ?_
            refine g_goto C (pc := 238) (tgt := 210) dX3_count_238 (by decide) ?_
            refine G.mask [true, true, true, true] rfl ?_
            exact ih210 (j + 1) (nI (cntT S.2.1 j)) (by omega) (by simp only [cntT]; first | (rw [if_pos (by assumption)]; done) | (rw [if_neg (by assumption)]; done) | (rw [if_pos (by assumption)]; rfl) | (rw [if_neg (by assumption)]; rfl)) (by omega)
          · skip
            have c_225 := nb_n0.mp c_225
            refine g_iconst C (pc := 228) (v := 1) dX3_count_228 (by decide) ?_
            refine g_goto C (pc := 229) (tgt := 233) dX3_count_229 (by decide) ?_
            refine g_iadd C (pc := 233) dX3_count_233 ?_
            refine G.topc (nI_1 _) ?_
            refine g_istore_n C (pc := 234) (L' := [some (.ref 20), some (.int w), some (.int (nI ((cntT S.2.1 j) + 1))), some (.int (nI j))]) dX3_count_234 (by decide) rfl rfl ?_
            refine g_iinc C (pc := 235) (v := nI (j + 1)) (L' := [some (.ref 20), some (.int w), some (.int (nI ((cntT S.2.1 j) + 1))), some (.int (nI (j + 1)))]) dX3_count_235 rfl (nI_inc _) (by decide) rfl rfl ?_
            refine g_goto C (pc := 238) (tgt := 210) dX3_count_238 (by decide) ?_
            refine G.mask [true, true, true, true] rfl ?_
            exact ih210 (j + 1) (nI ((cntT S.2.1 j) + 1)) (by omega) (by simp only [cntT]; first | (rw [if_pos (by assumption)]; done) | (rw [if_neg (by assumption)]; done) | (rw [if_pos (by assumption)]; rfl) | (rw [if_neg (by assumption)]; rfl)) (by omega)
    refine G.mask [true, true, true, true] rfl ?_
    exact loop_210 _ 0 0 (Nat.zero_le _) (rfl) (Nat.lt_succ_self _)
  refine g_tableOut C (pc := 8) (tgt := 243) dX3_count_8 (sw_out14 cs_8_0 cs_8_1 cs_8_2 cs_8_3 cs_8_4 cs_8_5 cs_8_6 cs_8_7 cs_8_8 cs_8_9 cs_8_10 cs_8_11 cs_8_12 cs_8_13) (by decide) ?_
  refine g_iconst C (pc := 243) (v := (-1)) dX3_count_243 (by decide) ?_
  exact g_iretD C R dX3_count_244 (Nat.le_refl _) (Nat.le_refl _) (by unfold m_count; simp [*]) (congrArg (fun z => wd K z h) (rfl)) rfl
theorem ds_X3_count : yX3_count.cls ≠ "java/lang/invoke/MethodHandle" ∧ yX3_count.cls ≠ "java/lang/invoke/VarHandle" ∧ (parseMethodDescriptor yX3_count.desc).map (fun d => d.parameters.length) = some 1 := by decide +kernel
set_option maxHeartbeats 4000000 in
set_option maxRecDepth 100000 in
theorem c_X3_death (l : Launch) (D : gD) (B : Nat × Nat) (K : KS) (S : MS) (h : gHp) (n : Nat) (a : Int32) (r : Int32) (hS : MOK S) : Con l yX3_death (ws_ yX3_death cX3_death 3 (some .boolean)) ({ frames := 1, cells := 0, slots := 0, locals := 21 }) D B [.ref 20, .int a, .int r] (wd K S h) n (gdt (some (.int (b2i (m_death S a r).2))) (wd K ((m_death S a r).1) h) n) 0 0 := by
  have b12 := hS.c12.2
  have b13 := hS.c13.2
  have b14 := hS.c14.2
  have b16 := hS.c16.2
  have b29 := hS.c29.2
  have b30 := hS.c30.2
  have b31 := hS.c31.2
  have b48 := hS.c48.2
  have b49 := hS.c49.2
  have b50 := hS.c50.2
  have b51 := hS.c51.2
  have b77 := hS.c77.2
  have b78 := hS.c78.2
  have b79 := hS.c79.2
  have b82 := hS.c82.2
  refine Con.begin [some (.ref 20), some (.int a), some (.int r)] rfl rfl (Nat.le_of_ble_eq_true rfl) rfl rfl (fun X C R => ?_)
  refine g_aload_n C (pc := 0) dX3_death_0 rfl rfl ?_
  refine g_iconst C (pc := 1) (v := 0) dX3_death_1 (by decide) ?_
  refine m_puti C 0 (pc := 2) dX3_death_2 rfl q1193 rfl rfl rfl ?_
  refine g_aload_n C (pc := 5) dX3_death_5 rfl rfl ?_
  refine m_geti C 49 (pc := 6) (v := nI (mN S 49)) dX3_death_6 rfl q1242 rfl hS.c49.1 ?_
  refine g_bipush C (pc := 9) (v := 40) dX3_death_9 (by decide) ?_
  refine g_icmp_eq C (pc := 11) (tgt := 30) dX3_death_11 (by decide) (fun c_11 => ?_) (fun c_11 => ?_)
  · skip
    have c_11 : (mN S 49) = 40 := (nI_eq (a := (mN S 49)) (b := 40) (by omega) (by omega)).mp c_11
    refine g_iconst C (pc := 30) (v := 0) dX3_death_30 (by decide) ?_
    exact g_zretD C (b2i_nb _) R dX3_death_31 (Nat.le_refl _) (Nat.le_refl _) (by unfold m_death; first | (rw [if_pos (by  grind)] <;> first | rfl | (simp [mN_sI_ne, sI_2, p2i, b2i, *]; done) | grind) | (rw [if_neg (by  grind)] <;> first | rfl | (simp [mN_sI_ne, sI_2, p2i, b2i, *]; done) | grind)) (congrArg (fun z => wd K z h) (by unfold m_death; first | (rw [if_pos (by  grind)] <;> first | rfl | (simp [mN_sI_ne, sI_2, p2i, b2i, *]; done) | grind) | (rw [if_neg (by  grind)] <;> first | rfl | (simp [mN_sI_ne, sI_2, p2i, b2i, *]; done) | grind))) rfl
  · skip
    have c_11 : ¬ (mN S 49) = 40 := fun q => c_11 ((nI_eq (a := (mN S 49)) (b := 40) (by omega) (by omega)).mpr q)
    refine g_aload_n C (pc := 14) dX3_death_14 rfl rfl ?_
    refine g_iload_n C (pc := 15) dX3_death_15 rfl ?_
    refine g_callVD C (pc := 16) [.int a] [] dX3_death_16 (c_X3_isHolder l D B K (sI S 0 0) h n a ) (lw_V q1514 q1516 qs40 q87 q1517) (wd_20 _ _ _) rfl rfl ds_X3_isHolder ⟨rfl, rfl⟩ ⟨Nat.le_of_ble_eq_true rfl, Nat.le_of_ble_eq_true rfl⟩ rfl rfl ⟨Nat.le_of_ble_eq_true rfl, Nat.le_of_ble_eq_true rfl⟩ (Nat.le_of_ble_eq_true rfl) rfl ?_
    refine g_if_eq C (pc := 19) (tgt := 30) dX3_death_19 (by decide) (fun c_19 => ?_) (fun c_19 => ?_)
    · skip
      have c_19 : ¬ (isHolder S a) := p2i_0.mp c_19
      refine g_iconst C (pc := 30) (v := 0) dX3_death_30 (by decide) ?_
      exact g_zretD C (b2i_nb _) R dX3_death_31 (Nat.le_refl _) (Nat.le_refl _) (by unfold m_death; first | (rw [if_pos (by  grind)] <;> first | rfl | (simp [mN_sI_ne, sI_2, p2i, b2i, *]; done) | grind) | (rw [if_neg (by  grind)] <;> first | rfl | (simp [mN_sI_ne, sI_2, p2i, b2i, *]; done) | grind)) (congrArg (fun z => wd K z h) (by unfold m_death; first | (rw [if_pos (by  grind)] <;> first | rfl | (simp [mN_sI_ne, sI_2, p2i, b2i, *]; done) | grind) | (rw [if_neg (by  grind)] <;> first | rfl | (simp [mN_sI_ne, sI_2, p2i, b2i, *]; done) | grind))) rfl
    · skip
      have c_19 : (isHolder S a) := p2i_n0.mp c_19
      refine g_aload_n C (pc := 22) dX3_death_22 rfl rfl ?_
      refine g_iload_n C (pc := 23) dX3_death_23 rfl ?_
      refine g_callVD C (pc := 24) [.int r] [] dX3_death_24 (c_X3_isRule l D B K (sI S 0 0) h n r ) (lw_V q1693 q1695 qs65 q87 q1696) (wd_20 _ _ _) rfl rfl ds_X3_isRule ⟨rfl, rfl⟩ ⟨Nat.le_of_ble_eq_true rfl, Nat.le_of_ble_eq_true rfl⟩ rfl rfl ⟨Nat.le_of_ble_eq_true rfl, Nat.le_of_ble_eq_true rfl⟩ (Nat.le_of_ble_eq_true rfl) rfl ?_
      refine g_if_ne C (pc := 27) (tgt := 32) dX3_death_27 (by decide) (fun c_27 => ?_) (fun c_27 => ?_)
      · skip
        have c_27 : (isRule S r) := p2i_n0.mp c_27
        refine g_aload_n C (pc := 32) dX3_death_32 rfl rfl ?_
        refine m_geta C 35 47 (pc := 33) dX3_death_33 (by decide) (fun _ => rfl) q1228 rfl ?_
        refine g_aload_n C (pc := 36) dX3_death_36 rfl rfl ?_
        refine m_geti C 49 (pc := 37) (v := nI (mN S 49)) dX3_death_37 rfl q1242 rfl hS.c49.1 ?_
        refine g_iload_n C (pc := 40) dX3_death_40 rfl ?_
        refine m_iast C (pc := 41) (j := (mN S 49)) dX3_death_41 (by decide) rfl (vp_in_nI (by omega) (by decide)) (nI_clamp (by omega)) ?_
        refine g_aload_n C (pc := 42) dX3_death_42 rfl rfl ?_
        refine m_geta C 36 48 (pc := 43) dX3_death_43 (by decide) (fun _ => rfl) q1229 rfl ?_
        refine g_aload_n C (pc := 46) dX3_death_46 rfl rfl ?_
        refine m_geti C 49 (pc := 47) (v := nI (mN S 49)) dX3_death_47 rfl q1242 rfl hS.c49.1 ?_
        refine g_iload_n C (pc := 50) dX3_death_50 rfl ?_
        refine m_iast C (pc := 51) (j := (mN S 49)) dX3_death_51 (by decide) rfl (vp_in_nI (by omega) (by decide)) (nI_clamp (by omega)) ?_
        refine g_aload_n C (pc := 52) dX3_death_52 rfl rfl ?_
        refine m_geta C 37 49 (pc := 53) dX3_death_53 (by decide) (fun _ => rfl) q1230 rfl ?_
        refine g_aload_n C (pc := 56) dX3_death_56 rfl rfl ?_
        refine m_geti C 49 (pc := 57) (v := nI (mN S 49)) dX3_death_57 rfl q1242 rfl hS.c49.1 ?_
        refine g_aload_n C (pc := 60) dX3_death_60 rfl rfl ?_
        refine m_geti C 1 (pc := 61) (v := S.1 1) dX3_death_61 rfl q1194 rfl rfl ?_
        refine m_iast C (pc := 64) (j := (mN S 49)) dX3_death_64 (by decide) rfl (vp_in_nI (by omega) (by decide)) (nI_clamp (by omega)) ?_
        refine g_aload_n C (pc := 65) dX3_death_65 rfl rfl ?_
        refine g_dup C (pc := 66) dX3_death_66 rfl ?_
        refine m_geti C 49 (pc := 67) (v := nI (mN S 49)) dX3_death_67 rfl q1242 rfl hS.c49.1 ?_
        refine g_iconst C (pc := 70) (v := 1) dX3_death_70 (by decide) ?_
        refine g_iadd C (pc := 71) dX3_death_71 ?_
        refine G.topc (nI_1 _) ?_
        refine m_puti C 49 (pc := 72) dX3_death_72 rfl q1242 rfl rfl rfl ?_
        refine g_iconst C (pc := 75) (v := 1) dX3_death_75 (by decide) ?_
        exact g_zretD C (b2i_nb _) R dX3_death_76 (Nat.le_refl _) (Nat.le_refl _) (by unfold m_death; first | (rw [if_pos (by  grind)] <;> first | rfl | (simp [mN_sI_ne, sI_2, p2i, b2i, *]; done) | grind) | (rw [if_neg (by  grind)] <;> first | rfl | (simp [mN_sI_ne, sI_2, p2i, b2i, *]; done) | grind)) (congrArg (fun z => wd K z h) (by unfold m_death; first | (rw [if_pos (by  grind)] <;> first | rfl | (simp [mN_sI_ne, sI_2, p2i, b2i, *]; done) | grind) | (rw [if_neg (by  grind)] <;> first | rfl | (simp [mN_sI_ne, sI_2, p2i, b2i, *]; done) | grind))) rfl
      · skip
        have c_27 : ¬ (isRule S r) := p2i_0.mp c_27
        refine g_iconst C (pc := 30) (v := 0) dX3_death_30 (by decide) ?_
        exact g_zretD C (b2i_nb _) R dX3_death_31 (Nat.le_refl _) (Nat.le_refl _) (by unfold m_death; first | (rw [if_pos (by  grind)] <;> first | rfl | (simp [mN_sI_ne, sI_2, p2i, b2i, *]; done) | grind) | (rw [if_neg (by  grind)] <;> first | rfl | (simp [mN_sI_ne, sI_2, p2i, b2i, *]; done) | grind)) (congrArg (fun z => wd K z h) (by unfold m_death; first | (rw [if_pos (by  grind)] <;> first | rfl | (simp [mN_sI_ne, sI_2, p2i, b2i, *]; done) | grind) | (rw [if_neg (by  grind)] <;> first | rfl | (simp [mN_sI_ne, sI_2, p2i, b2i, *]; done) | grind))) rfl
theorem ds_X3_death : yX3_death.cls ≠ "java/lang/invoke/MethodHandle" ∧ yX3_death.cls ≠ "java/lang/invoke/VarHandle" ∧ (parseMethodDescriptor yX3_death.desc).map (fun d => d.parameters.length) = some 2 := by decide +kernel
set_option maxHeartbeats 4000000 in
set_option maxRecDepth 100000 in
theorem c_X3_seal (l : Launch) (D : gD) (B : Nat × Nat) (K : KS) (S : MS) (h : gHp) (n : Nat) (v : Int32) (to : Int32) (z : Int32) (hS : MOK S) (hz : nb z = z) : Con l yX3_seal (ws_ yX3_seal cX3_seal 4 (some .int)) ({ frames := 1, cells := 0, slots := 0, locals := 22 }) D B [.ref 20, .int v, .int to, .int z] (wd K S h) n (gdt (some (.int ((m_seal S v to z).2))) (wd K ((m_seal S v to z).1) h) n) 0 0 := by
  have b12 := hS.c12.2
  have b13 := hS.c13.2
  have b14 := hS.c14.2
  have b16 := hS.c16.2
  have b29 := hS.c29.2
  have b30 := hS.c30.2
  have b31 := hS.c31.2
  have b48 := hS.c48.2
  have b49 := hS.c49.2
  have b50 := hS.c50.2
  have b51 := hS.c51.2
  have b77 := hS.c77.2
  have b78 := hS.c78.2
  have b79 := hS.c79.2
  have b82 := hS.c82.2
  refine Con.begin [some (.ref 20), some (.int v), some (.int to), some (.int z)] rfl rfl (Nat.le_of_ble_eq_true rfl) rfl rfl (fun X C R => ?_)
  refine g_aload_n C (pc := 0) dX3_seal_0 rfl rfl ?_
  refine g_iconst C (pc := 1) (v := 0) dX3_seal_1 (by decide) ?_
  refine m_puti C 0 (pc := 2) dX3_seal_2 rfl q1193 rfl rfl rfl ?_
  refine g_aload_n C (pc := 5) dX3_seal_5 rfl rfl ?_
  refine m_geti C 50 (pc := 6) (v := nI (mN S 50)) dX3_seal_6 rfl q1243 rfl hS.c50.1 ?_
  refine g_bipush C (pc := 9) (v := 40) dX3_seal_9 (by decide) ?_
  refine g_icmp_eq C (pc := 11) (tgt := 48) dX3_seal_11 (by decide) (fun c_11 => ?_) (fun c_11 => ?_)
  · skip
    have c_11 : (mN S 50) = 40 := (nI_eq (a := (mN S 50)) (b := 40) (by omega) (by omega)).mp c_11
    refine g_iconst C (pc := 48) (v := (-1)) dX3_seal_48 (by decide) ?_
    exact g_iretD C R dX3_seal_49 (Nat.le_refl _) (Nat.le_refl _) (by unfold m_seal; first | (rw [if_pos (by  grind)] <;> first | rfl | (simp [mN_sI_ne, sI_2, p2i, b2i, *]; done) | grind) | (rw [if_neg (by  grind)] <;> first | rfl | (simp [mN_sI_ne, sI_2, p2i, b2i, *]; done) | grind)) (congrArg (fun z => wd K z h) (by unfold m_seal; first | (rw [if_pos (by  grind)] <;> first | rfl | (simp [mN_sI_ne, sI_2, p2i, b2i, *]; done) | grind) | (rw [if_neg (by  grind)] <;> first | rfl | (simp [mN_sI_ne, sI_2, p2i, b2i, *]; done) | grind))) rfl
  · skip
    have c_11 : ¬ (mN S 50) = 40 := fun q => c_11 ((nI_eq (a := (mN S 50)) (b := 40) (by omega) (by omega)).mpr q)
    refine g_iload_n C (pc := 14) dX3_seal_14 rfl ?_
    refine g_iconst C (pc := 15) (v := 0) dX3_seal_15 (by decide) ?_
    refine g_sipush C (pc := 16) (v := 1018) dX3_seal_16 (by decide) ?_
    refine g_callSD C (pc := 19) [.int v, .int 0, .int 1018] [] dX3_seal_19 (c_X3_isIn l D B (wd K (sI S 0 0) h) n v 0 1018 ) (lw_S q1458 q1459 q87 q1460) ds_X3_isIn ⟨rfl, rfl⟩ ⟨Nat.le_of_ble_eq_true rfl, Nat.le_of_ble_eq_true rfl⟩ rfl rfl ⟨Nat.le_of_ble_eq_true rfl, Nat.le_of_ble_eq_true rfl⟩ (Nat.le_of_ble_eq_true rfl) rfl ?_
    refine g_if_eq C (pc := 22) (tgt := 48) dX3_seal_22 (by decide) (fun c_22 => ?_) (fun c_22 => ?_)
    · skip
      have c_22 : ¬ (isIn v 0 1018) := p2i_0.mp c_22
      refine g_iconst C (pc := 48) (v := (-1)) dX3_seal_48 (by decide) ?_
      exact g_iretD C R dX3_seal_49 (Nat.le_refl _) (Nat.le_refl _) (by unfold m_seal; first | (rw [if_pos (by  grind)] <;> first | rfl | (simp [mN_sI_ne, sI_2, p2i, b2i, *]; done) | grind) | (rw [if_neg (by  grind)] <;> first | rfl | (simp [mN_sI_ne, sI_2, p2i, b2i, *]; done) | grind)) (congrArg (fun z => wd K z h) (by unfold m_seal; first | (rw [if_pos (by  grind)] <;> first | rfl | (simp [mN_sI_ne, sI_2, p2i, b2i, *]; done) | grind) | (rw [if_neg (by  grind)] <;> first | rfl | (simp [mN_sI_ne, sI_2, p2i, b2i, *]; done) | grind))) rfl
    · skip
      have c_22 : (isIn v 0 1018) := p2i_n0.mp c_22
      refine g_iload_n C (pc := 25) dX3_seal_25 rfl ?_
      refine g_if_eq C (pc := 26) (tgt := 40) dX3_seal_26 (by decide) (fun c_26 => ?_) (fun c_26 => ?_)
      · skip
        refine g_aload_n C (pc := 40) dX3_seal_40 rfl rfl ?_
        refine g_iload_n C (pc := 41) dX3_seal_41 rfl ?_
        refine g_callVD C (pc := 42) [.int to] [] dX3_seal_42 (c_X3_isKey l D B K (sI S 0 0) h n to ) (lw_V q1492 q1494 qs38 q87 q1495) (wd_20 _ _ _) rfl rfl ds_X3_isKey ⟨rfl, rfl⟩ ⟨Nat.le_of_ble_eq_true rfl, Nat.le_of_ble_eq_true rfl⟩ rfl rfl ⟨Nat.le_of_ble_eq_true rfl, Nat.le_of_ble_eq_true rfl⟩ (Nat.le_of_ble_eq_true rfl) rfl ?_
        refine g_if_ne C (pc := 45) (tgt := 50) dX3_seal_45 (by decide) (fun c_45 => ?_) (fun c_45 => ?_)
        · skip
          have c_45 : (isKey S to) := p2i_n0.mp c_45
          refine g_aload_n C (pc := 50) dX3_seal_50 rfl rfl ?_
          refine m_geta C 38 50 (pc := 51) dX3_seal_51 (by decide) (fun _ => rfl) q1231 rfl ?_
          refine g_aload_n C (pc := 54) dX3_seal_54 rfl rfl ?_
          refine m_geti C 50 (pc := 55) (v := nI (mN S 50)) dX3_seal_55 rfl q1243 rfl hS.c50.1 ?_
          refine g_iload_n C (pc := 58) dX3_seal_58 rfl ?_
          refine m_iast C (pc := 59) (j := (mN S 50)) dX3_seal_59 (by decide) rfl (vp_in_nI (by omega) (by decide)) (nI_clamp (by omega)) ?_
          refine g_aload_n C (pc := 60) dX3_seal_60 rfl rfl ?_
          refine m_geta C 39 51 (pc := 61) dX3_seal_61 (by decide) (fun _ => rfl) q1232 rfl ?_
          refine g_aload_n C (pc := 64) dX3_seal_64 rfl rfl ?_
          refine m_geti C 50 (pc := 65) (v := nI (mN S 50)) dX3_seal_65 rfl q1243 rfl hS.c50.1 ?_
          refine g_iload_n C (pc := 68) dX3_seal_68 rfl ?_
          refine m_iast C (pc := 69) (j := (mN S 50)) dX3_seal_69 (by decide) rfl (vp_in_nI (by omega) (by decide)) (nI_clamp (by omega)) ?_
          refine g_aload_n C (pc := 70) dX3_seal_70 rfl rfl ?_
          refine m_geta C 44 56 (pc := 71) dX3_seal_71 (by decide) (fun _ => rfl) q1237 rfl ?_
          refine g_aload_n C (pc := 74) dX3_seal_74 rfl rfl ?_
          refine m_geti C 50 (pc := 75) (v := nI (mN S 50)) dX3_seal_75 rfl q1243 rfl hS.c50.1 ?_
          refine g_iload_n C (pc := 78) dX3_seal_78 rfl ?_
          refine m_zast C (pc := 79) (j := (mN S 50)) dX3_seal_79 (by decide) rfl (vp_in_nI (by omega) (by decide)) (nI_clamp (by omega)) hz ?_
          refine g_aload_n C (pc := 80) dX3_seal_80 rfl rfl ?_
          refine m_geta C 40 52 (pc := 81) dX3_seal_81 (by decide) (fun _ => rfl) q1233 rfl ?_
          refine g_aload_n C (pc := 84) dX3_seal_84 rfl rfl ?_
          refine m_geti C 50 (pc := 85) (v := nI (mN S 50)) dX3_seal_85 rfl q1243 rfl hS.c50.1 ?_
          refine g_iconst C (pc := 88) (v := (-1)) dX3_seal_88 (by decide) ?_
          refine m_iast C (pc := 89) (j := (mN S 50)) dX3_seal_89 (by decide) rfl (vp_in_nI (by omega) (by decide)) (nI_clamp (by omega)) ?_
          refine g_aload_n C (pc := 90) dX3_seal_90 rfl rfl ?_
          refine g_dup C (pc := 91) dX3_seal_91 rfl ?_
          refine m_geti C 50 (pc := 92) (v := nI (mN S 50)) dX3_seal_92 rfl q1243 rfl hS.c50.1 ?_
          refine g_iconst C (pc := 95) (v := 1) dX3_seal_95 (by decide) ?_
          refine g_iadd C (pc := 96) dX3_seal_96 ?_
          refine G.topc (nI_1 _) ?_
          refine m_puti C 50 (pc := 97) dX3_seal_97 rfl q1243 rfl rfl rfl ?_
          refine g_aload_n C (pc := 100) dX3_seal_100 rfl rfl ?_
          refine m_geti C 50 (pc := 101) (v := nI ((mN S 50) + 1)) dX3_seal_101 rfl q1243 rfl rfl ?_
          refine g_iconst C (pc := 104) (v := 1) dX3_seal_104 (by decide) ?_
          refine g_isub C (pc := 105) dX3_seal_105 ?_
          refine G.topc (nI_pred _) ?_
          exact g_iretD C R dX3_seal_106 (Nat.le_refl _) (Nat.le_refl _) (by unfold m_seal; first | (rw [if_pos (by  grind)] <;> first | rfl | (simp [mN_sI_ne, sI_2, p2i, b2i, *]; done) | grind) | (rw [if_neg (by  grind)] <;> first | rfl | (simp [mN_sI_ne, sI_2, p2i, b2i, *]; done) | grind)) (congrArg (fun z => wd K z h) (by unfold m_seal; first | (rw [if_pos (by  grind)] <;> first | rfl | (simp [mN_sI_ne, sI_2, p2i, b2i, *]; done) | grind) | (rw [if_neg (by  grind)] <;> first | rfl | (simp [mN_sI_ne, sI_2, p2i, b2i, *]; done) | grind))) rfl
        · skip
          have c_45 : ¬ (isKey S to) := p2i_0.mp c_45
          refine g_iconst C (pc := 48) (v := (-1)) dX3_seal_48 (by decide) ?_
          exact g_iretD C R dX3_seal_49 (Nat.le_refl _) (Nat.le_refl _) (by unfold m_seal; first | (rw [if_pos (by  grind)] <;> first | rfl | (simp [mN_sI_ne, sI_2, p2i, b2i, *]; done) | grind) | (rw [if_neg (by  grind)] <;> first | rfl | (simp [mN_sI_ne, sI_2, p2i, b2i, *]; done) | grind)) (congrArg (fun z => wd K z h) (by unfold m_seal; first | (rw [if_pos (by  grind)] <;> first | rfl | (simp [mN_sI_ne, sI_2, p2i, b2i, *]; done) | grind) | (rw [if_neg (by  grind)] <;> first | rfl | (simp [mN_sI_ne, sI_2, p2i, b2i, *]; done) | grind))) rfl
      · skip
        refine g_aload_n C (pc := 29) dX3_seal_29 rfl rfl ?_
        refine g_iload_n C (pc := 30) dX3_seal_30 rfl ?_
        refine g_callVD C (pc := 31) [.int to] [] dX3_seal_31 (c_X3_isRule l D B K (sI S 0 0) h n to ) (lw_V q1693 q1695 qs65 q87 q1696) (wd_20 _ _ _) rfl rfl ds_X3_isRule ⟨rfl, rfl⟩ ⟨Nat.le_of_ble_eq_true rfl, Nat.le_of_ble_eq_true rfl⟩ rfl rfl ⟨Nat.le_of_ble_eq_true rfl, Nat.le_of_ble_eq_true rfl⟩ (Nat.le_of_ble_eq_true rfl) rfl ?_
        refine g_if_ne C (pc := 34) (tgt := 50) dX3_seal_34 (by decide) (fun c_34 => ?_) (fun c_34 => ?_)
        · skip
          have c_34 : (isRule S to) := p2i_n0.mp c_34
          refine g_aload_n C (pc := 50) dX3_seal_50 rfl rfl ?_
          refine m_geta C 38 50 (pc := 51) dX3_seal_51 (by decide) (fun _ => rfl) q1231 rfl ?_
          refine g_aload_n C (pc := 54) dX3_seal_54 rfl rfl ?_
          refine m_geti C 50 (pc := 55) (v := nI (mN S 50)) dX3_seal_55 rfl q1243 rfl hS.c50.1 ?_
          refine g_iload_n C (pc := 58) dX3_seal_58 rfl ?_
          refine m_iast C (pc := 59) (j := (mN S 50)) dX3_seal_59 (by decide) rfl (vp_in_nI (by omega) (by decide)) (nI_clamp (by omega)) ?_
          refine g_aload_n C (pc := 60) dX3_seal_60 rfl rfl ?_
          refine m_geta C 39 51 (pc := 61) dX3_seal_61 (by decide) (fun _ => rfl) q1232 rfl ?_
          refine g_aload_n C (pc := 64) dX3_seal_64 rfl rfl ?_
          refine m_geti C 50 (pc := 65) (v := nI (mN S 50)) dX3_seal_65 rfl q1243 rfl hS.c50.1 ?_
          refine g_iload_n C (pc := 68) dX3_seal_68 rfl ?_
          refine m_iast C (pc := 69) (j := (mN S 50)) dX3_seal_69 (by decide) rfl (vp_in_nI (by omega) (by decide)) (nI_clamp (by omega)) ?_
          refine g_aload_n C (pc := 70) dX3_seal_70 rfl rfl ?_
          refine m_geta C 44 56 (pc := 71) dX3_seal_71 (by decide) (fun _ => rfl) q1237 rfl ?_
          refine g_aload_n C (pc := 74) dX3_seal_74 rfl rfl ?_
          refine m_geti C 50 (pc := 75) (v := nI (mN S 50)) dX3_seal_75 rfl q1243 rfl hS.c50.1 ?_
          refine g_iload_n C (pc := 78) dX3_seal_78 rfl ?_
          refine m_zast C (pc := 79) (j := (mN S 50)) dX3_seal_79 (by decide) rfl (vp_in_nI (by omega) (by decide)) (nI_clamp (by omega)) hz ?_
          refine g_aload_n C (pc := 80) dX3_seal_80 rfl rfl ?_
          refine m_geta C 40 52 (pc := 81) dX3_seal_81 (by decide) (fun _ => rfl) q1233 rfl ?_
          refine g_aload_n C (pc := 84) dX3_seal_84 rfl rfl ?_
          refine m_geti C 50 (pc := 85) (v := nI (mN S 50)) dX3_seal_85 rfl q1243 rfl hS.c50.1 ?_
          refine g_iconst C (pc := 88) (v := (-1)) dX3_seal_88 (by decide) ?_
          refine m_iast C (pc := 89) (j := (mN S 50)) dX3_seal_89 (by decide) rfl (vp_in_nI (by omega) (by decide)) (nI_clamp (by omega)) ?_
          refine g_aload_n C (pc := 90) dX3_seal_90 rfl rfl ?_
          refine g_dup C (pc := 91) dX3_seal_91 rfl ?_
          refine m_geti C 50 (pc := 92) (v := nI (mN S 50)) dX3_seal_92 rfl q1243 rfl hS.c50.1 ?_
          refine g_iconst C (pc := 95) (v := 1) dX3_seal_95 (by decide) ?_
          refine g_iadd C (pc := 96) dX3_seal_96 ?_
          refine G.topc (nI_1 _) ?_
          refine m_puti C 50 (pc := 97) dX3_seal_97 rfl q1243 rfl rfl rfl ?_
          refine g_aload_n C (pc := 100) dX3_seal_100 rfl rfl ?_
          refine m_geti C 50 (pc := 101) (v := nI ((mN S 50) + 1)) dX3_seal_101 rfl q1243 rfl rfl ?_
          refine g_iconst C (pc := 104) (v := 1) dX3_seal_104 (by decide) ?_
          refine g_isub C (pc := 105) dX3_seal_105 ?_
          refine G.topc (nI_pred _) ?_
          exact g_iretD C R dX3_seal_106 (Nat.le_refl _) (Nat.le_refl _) (by unfold m_seal; first | (rw [if_pos (by  grind)] <;> first | rfl | (simp [mN_sI_ne, sI_2, p2i, b2i, *]; done) | grind) | (rw [if_neg (by  grind)] <;> first | rfl | (simp [mN_sI_ne, sI_2, p2i, b2i, *]; done) | grind)) (congrArg (fun z => wd K z h) (by unfold m_seal; first | (rw [if_pos (by  grind)] <;> first | rfl | (simp [mN_sI_ne, sI_2, p2i, b2i, *]; done) | grind) | (rw [if_neg (by  grind)] <;> first | rfl | (simp [mN_sI_ne, sI_2, p2i, b2i, *]; done) | grind))) rfl
        · skip
          have c_34 : ¬ (isRule S to) := p2i_0.mp c_34
          refine g_goto C (pc := 37) (tgt := 48) dX3_seal_37 (by decide) ?_
          refine g_iconst C (pc := 48) (v := (-1)) dX3_seal_48 (by decide) ?_
          exact g_iretD C R dX3_seal_49 (Nat.le_refl _) (Nat.le_refl _) (by unfold m_seal; first | (rw [if_pos (by  grind)] <;> first | rfl | (simp [mN_sI_ne, sI_2, p2i, b2i, *]; done) | grind) | (rw [if_neg (by  grind)] <;> first | rfl | (simp [mN_sI_ne, sI_2, p2i, b2i, *]; done) | grind)) (congrArg (fun z => wd K z h) (by unfold m_seal; first | (rw [if_pos (by  grind)] <;> first | rfl | (simp [mN_sI_ne, sI_2, p2i, b2i, *]; done) | grind) | (rw [if_neg (by  grind)] <;> first | rfl | (simp [mN_sI_ne, sI_2, p2i, b2i, *]; done) | grind))) rfl
theorem ds_X3_seal : yX3_seal.cls ≠ "java/lang/invoke/MethodHandle" ∧ yX3_seal.cls ≠ "java/lang/invoke/VarHandle" ∧ (parseMethodDescriptor yX3_seal.desc).map (fun d => d.parameters.length) = some 3 := by decide +kernel
set_option maxHeartbeats 4000000 in
set_option maxRecDepth 100000 in
theorem c_X3_says (l : Launch) (D : gD) (B : Nat × Nat) (K : KS) (S : MS) (h : gHp) (n : Nat) (a : Int32) (b : Int32) (z : Int32) (y : Int32) (hS : MOK S) (hz : nb z = z) (hy : nb y = y) : Con l yX3_says (ws_ yX3_says cX3_says 5 (some .boolean)) ({ frames := 0, cells := 0, slots := 0, locals := 0 }) D B [.ref 20, .int a, .int b, .int z, .int y] (wd K S h) n (gdt (some (.int (b2i (m_says S a b z y).2))) (wd K ((m_says S a b z y).1) h) n) 0 0 := by
  have b12 := hS.c12.2
  have b13 := hS.c13.2
  have b14 := hS.c14.2
  have b16 := hS.c16.2
  have b29 := hS.c29.2
  have b30 := hS.c30.2
  have b31 := hS.c31.2
  have b48 := hS.c48.2
  have b49 := hS.c49.2
  have b50 := hS.c50.2
  have b51 := hS.c51.2
  have b77 := hS.c77.2
  have b78 := hS.c78.2
  have b79 := hS.c79.2
  have b82 := hS.c82.2
  refine Con.begin [some (.ref 20), some (.int a), some (.int b), some (.int z), some (.int y)] rfl rfl (Nat.le_of_ble_eq_true rfl) rfl rfl (fun X C R => ?_)
  refine g_aload_n C (pc := 0) dX3_says_0 rfl rfl ?_
  refine m_geti C 51 (pc := 1) (v := nI (mN S 51)) dX3_says_1 rfl q1244 rfl hS.c51.1 ?_
  refine g_sipush C (pc := 4) (v := 200) dX3_says_4 (by decide) ?_
  refine g_icmp_ne C (pc := 7) (tgt := 12) dX3_says_7 (by decide) (fun c_7 => ?_) (fun c_7 => ?_)
  · skip
    have c_7 : ¬ (mN S 51) = 200 := fun q => c_7 ((nI_eq (a := (mN S 51)) (b := 200) (by omega) (by omega)).mpr q)
    refine g_aload_n C (pc := 12) dX3_says_12 rfl rfl ?_
    refine m_geta C 41 53 (pc := 13) dX3_says_13 (by decide) (fun _ => rfl) q1234 rfl ?_
    refine g_aload_n C (pc := 16) dX3_says_16 rfl rfl ?_
    refine m_geti C 51 (pc := 17) (v := nI (mN S 51)) dX3_says_17 rfl q1244 rfl hS.c51.1 ?_
    refine g_iload_n C (pc := 20) dX3_says_20 rfl ?_
    refine m_iast C (pc := 21) (j := (mN S 51)) dX3_says_21 (by decide) rfl (vp_in_nI (by omega) (by decide)) (nI_clamp (by omega)) ?_
    refine g_aload_n C (pc := 22) dX3_says_22 rfl rfl ?_
    refine m_geta C 42 54 (pc := 23) dX3_says_23 (by decide) (fun _ => rfl) q1235 rfl ?_
    refine g_aload_n C (pc := 26) dX3_says_26 rfl rfl ?_
    refine m_geti C 51 (pc := 27) (v := nI (mN S 51)) dX3_says_27 rfl q1244 rfl hS.c51.1 ?_
    refine g_iload_n C (pc := 30) dX3_says_30 rfl ?_
    refine m_iast C (pc := 31) (j := (mN S 51)) dX3_says_31 (by decide) rfl (vp_in_nI (by omega) (by decide)) (nI_clamp (by omega)) ?_
    refine g_aload_n C (pc := 32) dX3_says_32 rfl rfl ?_
    refine m_geta C 43 55 (pc := 33) dX3_says_33 (by decide) (fun _ => rfl) q1236 rfl ?_
    refine g_aload_n C (pc := 36) dX3_says_36 rfl rfl ?_
    refine m_geti C 51 (pc := 37) (v := nI (mN S 51)) dX3_says_37 rfl q1244 rfl hS.c51.1 ?_
    refine g_aload_n C (pc := 40) dX3_says_40 rfl rfl ?_
    refine m_geti C 1 (pc := 41) (v := S.1 1) dX3_says_41 rfl q1194 rfl rfl ?_
    refine m_iast C (pc := 44) (j := (mN S 51)) dX3_says_44 (by decide) rfl (vp_in_nI (by omega) (by decide)) (nI_clamp (by omega)) ?_
    refine g_aload_n C (pc := 45) dX3_says_45 rfl rfl ?_
    refine m_geta C 46 58 (pc := 46) dX3_says_46 (by decide) (fun _ => rfl) q1239 rfl ?_
    refine g_aload_n C (pc := 49) dX3_says_49 rfl rfl ?_
    refine m_geti C 51 (pc := 50) (v := nI (mN S 51)) dX3_says_50 rfl q1244 rfl hS.c51.1 ?_
    refine g_iload_n C (pc := 53) dX3_says_53 rfl ?_
    refine m_zast C (pc := 54) (j := (mN S 51)) dX3_says_54 (by decide) rfl (vp_in_nI (by omega) (by decide)) (nI_clamp (by omega)) hz ?_
    refine g_aload_n C (pc := 55) dX3_says_55 rfl rfl ?_
    refine m_geta C 47 59 (pc := 56) dX3_says_56 (by decide) (fun _ => rfl) q1240 rfl ?_
    refine g_aload_n C (pc := 59) dX3_says_59 rfl rfl ?_
    refine m_geti C 51 (pc := 60) (v := nI (mN S 51)) dX3_says_60 rfl q1244 rfl hS.c51.1 ?_
    refine g_iload C (pc := 63) dX3_says_63 rfl ?_
    refine m_zast C (pc := 65) (j := (mN S 51)) dX3_says_65 (by decide) rfl (vp_in_nI (by omega) (by decide)) (nI_clamp (by omega)) hy ?_
    refine g_aload_n C (pc := 66) dX3_says_66 rfl rfl ?_
    refine g_dup C (pc := 67) dX3_says_67 rfl ?_
    refine m_geti C 51 (pc := 68) (v := nI (mN S 51)) dX3_says_68 rfl q1244 rfl hS.c51.1 ?_
    refine g_iconst C (pc := 71) (v := 1) dX3_says_71 (by decide) ?_
    refine g_iadd C (pc := 72) dX3_says_72 ?_
    refine G.topc (nI_1 _) ?_
    refine m_puti C 51 (pc := 73) dX3_says_73 rfl q1244 rfl rfl rfl ?_
    refine g_iconst C (pc := 76) (v := 1) dX3_says_76 (by decide) ?_
    exact g_zretD C (b2i_nb _) R dX3_says_77 (Nat.le_refl _) (Nat.le_refl _) (by unfold m_says; first | (rw [if_pos (by  grind)] <;> first | rfl | (simp [mN_sI_ne, sI_2, p2i, b2i, *]; done) | grind) | (rw [if_neg (by  grind)] <;> first | rfl | (simp [mN_sI_ne, sI_2, p2i, b2i, *]; done) | grind)) (congrArg (fun z => wd K z h) (by unfold m_says; first | (rw [if_pos (by  grind)] <;> first | rfl | (simp [mN_sI_ne, sI_2, p2i, b2i, *]; done) | grind) | (rw [if_neg (by  grind)] <;> first | rfl | (simp [mN_sI_ne, sI_2, p2i, b2i, *]; done) | grind))) rfl
  · skip
    have c_7 : (mN S 51) = 200 := (nI_eq (a := (mN S 51)) (b := 200) (by omega) (by omega)).mp c_7
    refine g_iconst C (pc := 10) (v := 0) dX3_says_10 (by decide) ?_
    exact g_zretD C (b2i_nb _) R dX3_says_11 (Nat.le_refl _) (Nat.le_refl _) (by unfold m_says; first | (rw [if_pos (by  grind)] <;> first | rfl | (simp [mN_sI_ne, sI_2, p2i, b2i, *]; done) | grind) | (rw [if_neg (by  grind)] <;> first | rfl | (simp [mN_sI_ne, sI_2, p2i, b2i, *]; done) | grind)) (congrArg (fun z => wd K z h) (by unfold m_says; first | (rw [if_pos (by  grind)] <;> first | rfl | (simp [mN_sI_ne, sI_2, p2i, b2i, *]; done) | grind) | (rw [if_neg (by  grind)] <;> first | rfl | (simp [mN_sI_ne, sI_2, p2i, b2i, *]; done) | grind))) rfl
theorem ds_X3_says : yX3_says.cls ≠ "java/lang/invoke/MethodHandle" ∧ yX3_says.cls ≠ "java/lang/invoke/VarHandle" ∧ (parseMethodDescriptor yX3_says.desc).map (fun d => d.parameters.length) = some 4 := by decide +kernel
set_option maxHeartbeats 4000000 in
set_option maxRecDepth 100000 in
theorem c_X3_say (l : Launch) (D : gD) (B : Nat × Nat) (K : KS) (S : MS) (h : gHp) (n : Nat) (a : Int32) (b : Int32) (z : Int32) (hS : MOK S) (hz : nb z = z) : Con l yX3_say (ws_ yX3_say cX3_say 4 (some .boolean)) ({ frames := 1, cells := 0, slots := 0, locals := 24 }) D B [.ref 20, .int a, .int b, .int z] (wd K S h) n (gdt (some (.int (b2i (m_say S a b z).2))) (wd K ((m_say S a b z).1) h) n) 0 0 := by
  have b12 := hS.c12.2
  have b13 := hS.c13.2
  have b14 := hS.c14.2
  have b16 := hS.c16.2
  have b29 := hS.c29.2
  have b30 := hS.c30.2
  have b31 := hS.c31.2
  have b48 := hS.c48.2
  have b49 := hS.c49.2
  have b50 := hS.c50.2
  have b51 := hS.c51.2
  have b77 := hS.c77.2
  have b78 := hS.c78.2
  have b79 := hS.c79.2
  have b82 := hS.c82.2
  refine Con.begin [some (.ref 20), some (.int a), some (.int b), some (.int z)] rfl rfl (Nat.le_of_ble_eq_true rfl) rfl rfl (fun X C R => ?_)
  refine g_aload_n C (pc := 0) dX3_say_0 rfl rfl ?_
  refine g_iconst C (pc := 1) (v := 0) dX3_say_1 (by decide) ?_
  refine m_puti C 0 (pc := 2) dX3_say_2 rfl q1193 rfl rfl rfl ?_
  refine g_aload_n C (pc := 5) dX3_say_5 rfl rfl ?_
  refine g_iload_n C (pc := 6) dX3_say_6 rfl ?_
  refine g_callVD C (pc := 7) [.int a] [] dX3_say_7 (c_X3_isHolder l D B K (sI S 0 0) h n a ) (lw_V q1514 q1516 qs40 q87 q1517) (wd_20 _ _ _) rfl rfl ds_X3_isHolder ⟨rfl, rfl⟩ ⟨Nat.le_of_ble_eq_true rfl, Nat.le_of_ble_eq_true rfl⟩ rfl rfl ⟨Nat.le_of_ble_eq_true rfl, Nat.le_of_ble_eq_true rfl⟩ (Nat.le_of_ble_eq_true rfl) rfl ?_
  refine g_if_eq C (pc := 10) (tgt := 36) dX3_say_10 (by decide) (fun c_10 => ?_) (fun c_10 => ?_)
  · skip
    have c_10 : ¬ (isHolder S a) := p2i_0.mp c_10
    refine g_iconst C (pc := 36) (v := 0) dX3_say_36 (by decide) ?_
    exact g_zretD C (b2i_nb _) R dX3_say_37 (Nat.le_refl _) (Nat.le_refl _) (by unfold m_say; first | (rw [if_pos (by grind)]; simp only [b2i]; first | (rw [if_pos c_29]; done) | (rw [if_neg c_29]; done)) | (rw [if_neg (by grind)]; rfl)) (congrArg (fun z => wd K z h) (by unfold m_say; first | (rw [if_pos (by grind)]; first | exact e_S_26) | (rw [if_neg (by grind)]))) rfl
  · skip
    have c_10 : (isHolder S a) := p2i_n0.mp c_10
    refine g_aload_n C (pc := 13) dX3_say_13 rfl rfl ?_
    refine g_iload_n C (pc := 14) dX3_say_14 rfl ?_
    refine g_callVD C (pc := 15) [.int b] [] dX3_say_15 (c_X3_isThing l D B K (sI S 0 0) h n b ) (lw_V q1705 q1707 qs66 q87 q1708) (wd_20 _ _ _) rfl rfl ds_X3_isThing ⟨rfl, rfl⟩ ⟨Nat.le_of_ble_eq_true rfl, Nat.le_of_ble_eq_true rfl⟩ rfl rfl ⟨Nat.le_of_ble_eq_true rfl, Nat.le_of_ble_eq_true rfl⟩ (Nat.le_of_ble_eq_true rfl) rfl ?_
    refine g_if_eq C (pc := 18) (tgt := 36) dX3_say_18 (by decide) (fun c_18 => ?_) (fun c_18 => ?_)
    · skip
      have c_18 : ¬ (isThing S b) := p2i_0.mp c_18
      refine g_iconst C (pc := 36) (v := 0) dX3_say_36 (by decide) ?_
      exact g_zretD C (b2i_nb _) R dX3_say_37 (Nat.le_refl _) (Nat.le_refl _) (by unfold m_say; first | (rw [if_pos (by grind)]; simp only [b2i]; first | (rw [if_pos c_29]; done) | (rw [if_neg c_29]; done)) | (rw [if_neg (by grind)]; rfl)) (congrArg (fun z => wd K z h) (by unfold m_say; first | (rw [if_pos (by grind)]; first | exact e_S_26) | (rw [if_neg (by grind)]))) rfl
    · skip
      have c_18 : (isThing S b) := p2i_n0.mp c_18
      refine g_aload_n C (pc := 21) dX3_say_21 rfl rfl ?_
      refine g_iload_n C (pc := 22) dX3_say_22 rfl ?_
      refine g_iload_n C (pc := 23) dX3_say_23 rfl ?_
      refine g_iload_n C (pc := 24) dX3_say_24 rfl ?_
      refine g_iconst C (pc := 25) (v := 0) dX3_say_25 (by decide) ?_
      refine g_callVD C (pc := 26) [.int a, .int b, .int z, .int 0] [] dX3_say_26 (c_X3_says l D B K (sI S 0 0) h n a b z 0 (hS.setI 0 rfl) hz rfl) (lw_V q1709 q1711 qs67 q87 q1712) (wd_20 _ _ _) rfl rfl ds_X3_says ⟨rfl, rfl⟩ ⟨Nat.le_of_ble_eq_true rfl, Nat.le_of_ble_eq_true rfl⟩ rfl rfl ⟨Nat.le_of_ble_eq_true rfl, Nat.le_of_ble_eq_true rfl⟩ (Nat.le_of_ble_eq_true rfl) rfl ?_
      refine G.nmS (fun S_26 e_S_26 => ?_)
      refine g_if_eq C (pc := 29) (tgt := 36) dX3_say_29 (by decide) (fun c_29 => ?_) (fun c_29 => ?_)
      · skip
        have c_29 : ¬ ((m_says (sI S 0 0) a b z 0).2) = true := b2i_0.mp c_29
        refine g_iconst C (pc := 36) (v := 0) dX3_say_36 (by decide) ?_
        exact g_zretD C (b2i_nb _) R dX3_say_37 (Nat.le_refl _) (Nat.le_refl _) (by unfold m_say; first | (rw [if_pos (by grind)]; simp only [b2i]; first | (rw [if_pos c_29]; done) | (rw [if_neg c_29]; done)) | (rw [if_neg (by grind)]; rfl)) (congrArg (fun z => wd K z h) (by unfold m_say; first | (rw [if_pos (by grind)]; first | exact e_S_26) | (rw [if_neg (by grind)]))) rfl
      · skip
        have c_29 : ((m_says (sI S 0 0) a b z 0).2) = true := b2i_n0.mp c_29
        refine g_iconst C (pc := 32) (v := 1) dX3_say_32 (by decide) ?_
        refine g_goto C (pc := 33) (tgt := 37) dX3_say_33 (by decide) ?_
        exact g_zretD C (b2i_nb _) R dX3_say_37 (Nat.le_refl _) (Nat.le_refl _) (by unfold m_say; first | (rw [if_pos (by grind)]; simp only [b2i]; first | (rw [if_pos c_29]; done) | (rw [if_neg c_29]; done)) | (rw [if_neg (by grind)]; rfl)) (congrArg (fun z => wd K z h) (by unfold m_say; first | (rw [if_pos (by grind)]; first | exact e_S_26) | (rw [if_neg (by grind)]))) rfl
theorem ds_X3_say : yX3_say.cls ≠ "java/lang/invoke/MethodHandle" ∧ yX3_say.cls ≠ "java/lang/invoke/VarHandle" ∧ (parseMethodDescriptor yX3_say.desc).map (fun d => d.parameters.length) = some 3 := by decide +kernel
set_option maxHeartbeats 4000000 in
set_option maxRecDepth 100000 in
theorem c_X3_mourn (l : Launch) (D : gD) (B : Nat × Nat) (K : KS) (S : MS) (h : gHp) (n : Nat) (a : Int32) (b : Int32) (z : Int32) (hS : MOK S) (hz : nb z = z) : Con l yX3_mourn (ws_ yX3_mourn cX3_mourn 4 (some .boolean)) ({ frames := 1, cells := 0, slots := 0, locals := 24 }) D B [.ref 20, .int a, .int b, .int z] (wd K S h) n (gdt (some (.int (b2i (m_mourn S a b z).2))) (wd K ((m_mourn S a b z).1) h) n) 0 0 := by
  have b12 := hS.c12.2
  have b13 := hS.c13.2
  have b14 := hS.c14.2
  have b16 := hS.c16.2
  have b29 := hS.c29.2
  have b30 := hS.c30.2
  have b31 := hS.c31.2
  have b48 := hS.c48.2
  have b49 := hS.c49.2
  have b50 := hS.c50.2
  have b51 := hS.c51.2
  have b77 := hS.c77.2
  have b78 := hS.c78.2
  have b79 := hS.c79.2
  have b82 := hS.c82.2
  refine Con.begin [some (.ref 20), some (.int a), some (.int b), some (.int z)] rfl rfl (Nat.le_of_ble_eq_true rfl) rfl rfl (fun X C R => ?_)
  refine g_aload_n C (pc := 0) dX3_mourn_0 rfl rfl ?_
  refine g_iconst C (pc := 1) (v := 0) dX3_mourn_1 (by decide) ?_
  refine m_puti C 0 (pc := 2) dX3_mourn_2 rfl q1193 rfl rfl rfl ?_
  refine g_aload_n C (pc := 5) dX3_mourn_5 rfl rfl ?_
  refine g_iload_n C (pc := 6) dX3_mourn_6 rfl ?_
  refine g_callVD C (pc := 7) [.int a] [] dX3_mourn_7 (c_X3_isHolder l D B K (sI S 0 0) h n a ) (lw_V q1514 q1516 qs40 q87 q1517) (wd_20 _ _ _) rfl rfl ds_X3_isHolder ⟨rfl, rfl⟩ ⟨Nat.le_of_ble_eq_true rfl, Nat.le_of_ble_eq_true rfl⟩ rfl rfl ⟨Nat.le_of_ble_eq_true rfl, Nat.le_of_ble_eq_true rfl⟩ (Nat.le_of_ble_eq_true rfl) rfl ?_
  refine g_if_eq C (pc := 10) (tgt := 41) dX3_mourn_10 (by decide) (fun c_10 => ?_) (fun c_10 => ?_)
  · skip
    have c_10 : ¬ (isHolder S a) := p2i_0.mp c_10
    refine g_iconst C (pc := 41) (v := 0) dX3_mourn_41 (by decide) ?_
    exact g_zretD C (b2i_nb _) R dX3_mourn_42 (Nat.le_refl _) (Nat.le_refl _) (by unfold m_mourn; first | (rw [if_pos (by grind)]; simp only [b2i]; first | (rw [if_pos c_34]; done) | (rw [if_neg c_34]; done)) | (rw [if_neg (by grind)]; rfl)) (congrArg (fun z => wd K z h) (by unfold m_mourn; first | (rw [if_pos (by grind)]; first | exact e_S_31) | (rw [if_neg (by grind)]))) rfl
  · skip
    have c_10 : (isHolder S a) := p2i_n0.mp c_10
    refine g_aload_n C (pc := 13) dX3_mourn_13 rfl rfl ?_
    refine g_iload_n C (pc := 14) dX3_mourn_14 rfl ?_
    refine g_callVD C (pc := 15) [.int b] [] dX3_mourn_15 (c_X3_isHolder l D B K (sI S 0 0) h n b ) (lw_V q1514 q1516 qs40 q87 q1517) (wd_20 _ _ _) rfl rfl ds_X3_isHolder ⟨rfl, rfl⟩ ⟨Nat.le_of_ble_eq_true rfl, Nat.le_of_ble_eq_true rfl⟩ rfl rfl ⟨Nat.le_of_ble_eq_true rfl, Nat.le_of_ble_eq_true rfl⟩ (Nat.le_of_ble_eq_true rfl) rfl ?_
    refine g_if_eq C (pc := 18) (tgt := 41) dX3_mourn_18 (by decide) (fun c_18 => ?_) (fun c_18 => ?_)
    · skip
      have c_18 : ¬ (isHolder S b) := p2i_0.mp c_18
      refine g_iconst C (pc := 41) (v := 0) dX3_mourn_41 (by decide) ?_
      exact g_zretD C (b2i_nb _) R dX3_mourn_42 (Nat.le_refl _) (Nat.le_refl _) (by unfold m_mourn; first | (rw [if_pos (by grind)]; simp only [b2i]; first | (rw [if_pos c_34]; done) | (rw [if_neg c_34]; done)) | (rw [if_neg (by grind)]; rfl)) (congrArg (fun z => wd K z h) (by unfold m_mourn; first | (rw [if_pos (by grind)]; first | exact e_S_31) | (rw [if_neg (by grind)]))) rfl
    · skip
      have c_18 : (isHolder S b) := p2i_n0.mp c_18
      refine g_iload_n C (pc := 21) dX3_mourn_21 rfl ?_
      refine g_iload_n C (pc := 22) dX3_mourn_22 rfl ?_
      refine g_icmp_eq C (pc := 23) (tgt := 41) dX3_mourn_23 (by decide) (fun c_23 => ?_) (fun c_23 => ?_)
      · skip
        have c_23 : ((a) : Int32) = b := c_23
        refine g_iconst C (pc := 41) (v := 0) dX3_mourn_41 (by decide) ?_
        exact g_zretD C (b2i_nb _) R dX3_mourn_42 (Nat.le_refl _) (Nat.le_refl _) (by unfold m_mourn; first | (rw [if_pos (by grind)]; simp only [b2i]; first | (rw [if_pos c_34]; done) | (rw [if_neg c_34]; done)) | (rw [if_neg (by grind)]; rfl)) (congrArg (fun z => wd K z h) (by unfold m_mourn; first | (rw [if_pos (by grind)]; first | exact e_S_31) | (rw [if_neg (by grind)]))) rfl
      · skip
        have c_23 : ¬ ((a) : Int32) = b := c_23
        refine g_aload_n C (pc := 26) dX3_mourn_26 rfl rfl ?_
        refine g_iload_n C (pc := 27) dX3_mourn_27 rfl ?_
        refine g_iload_n C (pc := 28) dX3_mourn_28 rfl ?_
        refine g_iload_n C (pc := 29) dX3_mourn_29 rfl ?_
        refine g_iconst C (pc := 30) (v := 1) dX3_mourn_30 (by decide) ?_
        refine g_callVD C (pc := 31) [.int a, .int b, .int z, .int 1] [] dX3_mourn_31 (c_X3_says l D B K (sI S 0 0) h n a b z 1 (hS.setI 0 rfl) hz rfl) (lw_V q1709 q1711 qs67 q87 q1712) (wd_20 _ _ _) rfl rfl ds_X3_says ⟨rfl, rfl⟩ ⟨Nat.le_of_ble_eq_true rfl, Nat.le_of_ble_eq_true rfl⟩ rfl rfl ⟨Nat.le_of_ble_eq_true rfl, Nat.le_of_ble_eq_true rfl⟩ (Nat.le_of_ble_eq_true rfl) rfl ?_
        refine G.nmS (fun S_31 e_S_31 => ?_)
        refine g_if_eq C (pc := 34) (tgt := 41) dX3_mourn_34 (by decide) (fun c_34 => ?_) (fun c_34 => ?_)
        · skip
          have c_34 : ¬ ((m_says (sI S 0 0) a b z 1).2) = true := b2i_0.mp c_34
          refine g_iconst C (pc := 41) (v := 0) dX3_mourn_41 (by decide) ?_
          exact g_zretD C (b2i_nb _) R dX3_mourn_42 (Nat.le_refl _) (Nat.le_refl _) (by unfold m_mourn; first | (rw [if_pos (by grind)]; simp only [b2i]; first | (rw [if_pos c_34]; done) | (rw [if_neg c_34]; done)) | (rw [if_neg (by grind)]; rfl)) (congrArg (fun z => wd K z h) (by unfold m_mourn; first | (rw [if_pos (by grind)]; first | exact e_S_31) | (rw [if_neg (by grind)]))) rfl
        · skip
          have c_34 : ((m_says (sI S 0 0) a b z 1).2) = true := b2i_n0.mp c_34
          refine g_iconst C (pc := 37) (v := 1) dX3_mourn_37 (by decide) ?_
          refine g_goto C (pc := 38) (tgt := 42) dX3_mourn_38 (by decide) ?_
          exact g_zretD C (b2i_nb _) R dX3_mourn_42 (Nat.le_refl _) (Nat.le_refl _) (by unfold m_mourn; first | (rw [if_pos (by grind)]; simp only [b2i]; first | (rw [if_pos c_34]; done) | (rw [if_neg c_34]; done)) | (rw [if_neg (by grind)]; rfl)) (congrArg (fun z => wd K z h) (by unfold m_mourn; first | (rw [if_pos (by grind)]; first | exact e_S_31) | (rw [if_neg (by grind)]))) rfl
theorem ds_X3_mourn : yX3_mourn.cls ≠ "java/lang/invoke/MethodHandle" ∧ yX3_mourn.cls ≠ "java/lang/invoke/VarHandle" ∧ (parseMethodDescriptor yX3_mourn.desc).map (fun d => d.parameters.length) = some 3 := by decide +kernel
set_option maxHeartbeats 4000000 in
set_option maxRecDepth 100000 in
theorem c_X3_ask (l : Launch) (D : gD) (B : Nat × Nat) (K : KS) (S : MS) (h : gHp) (n : Nat) (t : Int32) (hS : MOK S) : Con l yX3_ask (ws_ yX3_ask cX3_ask 2 (some .boolean)) ({ frames := 1, cells := 0, slots := 0, locals := 21 }) D B [.ref 20, .int t] (wd K S h) n (gdt (some (.int (b2i (m_ask S t).2))) (wd K ((m_ask S t).1) h) n) 0 0 := by
  have b12 := hS.c12.2
  have b13 := hS.c13.2
  have b14 := hS.c14.2
  have b16 := hS.c16.2
  have b29 := hS.c29.2
  have b30 := hS.c30.2
  have b31 := hS.c31.2
  have b48 := hS.c48.2
  have b49 := hS.c49.2
  have b50 := hS.c50.2
  have b51 := hS.c51.2
  have b77 := hS.c77.2
  have b78 := hS.c78.2
  have b79 := hS.c79.2
  have b82 := hS.c82.2
  refine Con.begin [some (.ref 20), some (.int t)] rfl rfl (Nat.le_of_ble_eq_true rfl) rfl rfl (fun X C R => ?_)
  refine g_aload_n C (pc := 0) dX3_ask_0 rfl rfl ?_
  refine g_iconst C (pc := 1) (v := 0) dX3_ask_1 (by decide) ?_
  refine m_puti C 0 (pc := 2) dX3_ask_2 rfl q1193 rfl rfl rfl ?_
  refine g_aload_n C (pc := 5) dX3_ask_5 rfl rfl ?_
  refine g_iload_n C (pc := 6) dX3_ask_6 rfl ?_
  refine g_callVD C (pc := 7) [.int t] [] dX3_ask_7 (c_X3_isThing l D B K (sI S 0 0) h n t ) (lw_V q1705 q1707 qs66 q87 q1708) (wd_20 _ _ _) rfl rfl ds_X3_isThing ⟨rfl, rfl⟩ ⟨Nat.le_of_ble_eq_true rfl, Nat.le_of_ble_eq_true rfl⟩ rfl rfl ⟨Nat.le_of_ble_eq_true rfl, Nat.le_of_ble_eq_true rfl⟩ (Nat.le_of_ble_eq_true rfl) rfl ?_
  refine g_if_eq C (pc := 10) (tgt := 23) dX3_ask_10 (by decide) (fun c_10 => ?_) (fun c_10 => ?_)
  · skip
    have c_10 : ¬ (isThing S t) := p2i_0.mp c_10
    refine g_iconst C (pc := 23) (v := 0) dX3_ask_23 (by decide) ?_
    exact g_zretD C (b2i_nb _) R dX3_ask_24 (Nat.le_refl _) (Nat.le_refl _) (by unfold m_ask; first | (rw [if_pos (by  grind)] <;> first | rfl | (simp [mN_sI_ne, sI_2, p2i, b2i, *]; done) | grind) | (rw [if_neg (by  grind)] <;> first | rfl | (simp [mN_sI_ne, sI_2, p2i, b2i, *]; done) | grind)) (congrArg (fun z => wd K z h) (by unfold m_ask; first | (rw [if_pos (by  grind)] <;> first | rfl | (simp [mN_sI_ne, sI_2, p2i, b2i, *]; done) | grind) | (rw [if_neg (by  grind)] <;> first | rfl | (simp [mN_sI_ne, sI_2, p2i, b2i, *]; done) | grind))) rfl
  · skip
    have c_10 : (isThing S t) := p2i_n0.mp c_10
    refine g_aload_n C (pc := 13) dX3_ask_13 rfl rfl ?_
    refine m_geta C 40 52 (pc := 14) dX3_ask_14 (by decide) (fun _ => rfl) q1233 rfl ?_
    refine g_iload_n C (pc := 17) dX3_ask_17 rfl ?_
    refine m_iald C (pc := 18) (v := (S.2.1 52) ((t).toNatClampNeg)) dX3_ask_18 (by decide) rfl (isThing.inr hS c_10) rfl ?_
    refine g_iconst C (pc := 19) (v := (-1)) dX3_ask_19 (by decide) ?_
    refine g_icmp_eq C (pc := 20) (tgt := 25) dX3_ask_20 (by decide) (fun c_20 => ?_) (fun c_20 => ?_)
    · skip
      have c_20 : (((S.2.1 52) ((t).toNatClampNeg)) : Int32) = -1 := c_20
      refine g_aload_n C (pc := 25) dX3_ask_25 rfl rfl ?_
      refine m_geta C 40 52 (pc := 26) dX3_ask_26 (by decide) (fun _ => rfl) q1233 rfl ?_
      refine g_iload_n C (pc := 29) dX3_ask_29 rfl ?_
      refine g_aload_n C (pc := 30) dX3_ask_30 rfl rfl ?_
      refine m_geti C 1 (pc := 31) (v := S.1 1) dX3_ask_31 rfl q1194 rfl rfl ?_
      refine m_iast C (pc := 34) (j := (t).toNatClampNeg) dX3_ask_34 (by decide) rfl (isThing.inr hS c_10) rfl ?_
      refine g_iconst C (pc := 35) (v := 1) dX3_ask_35 (by decide) ?_
      exact g_zretD C (b2i_nb _) R dX3_ask_36 (Nat.le_refl _) (Nat.le_refl _) (by unfold m_ask; first | (rw [if_pos (by  grind)] <;> first | rfl | (simp [mN_sI_ne, sI_2, p2i, b2i, *]; done) | grind) | (rw [if_neg (by  grind)] <;> first | rfl | (simp [mN_sI_ne, sI_2, p2i, b2i, *]; done) | grind)) (congrArg (fun z => wd K z h) (by unfold m_ask; first | (rw [if_pos (by  grind)] <;> first | rfl | (simp [mN_sI_ne, sI_2, p2i, b2i, *]; done) | grind) | (rw [if_neg (by  grind)] <;> first | rfl | (simp [mN_sI_ne, sI_2, p2i, b2i, *]; done) | grind))) rfl
    · skip
      have c_20 : ¬ (((S.2.1 52) ((t).toNatClampNeg)) : Int32) = -1 := c_20
      refine g_iconst C (pc := 23) (v := 0) dX3_ask_23 (by decide) ?_
      exact g_zretD C (b2i_nb _) R dX3_ask_24 (Nat.le_refl _) (Nat.le_refl _) (by unfold m_ask; first | (rw [if_pos (by  grind)] <;> first | rfl | (simp [mN_sI_ne, sI_2, p2i, b2i, *]; done) | grind) | (rw [if_neg (by  grind)] <;> first | rfl | (simp [mN_sI_ne, sI_2, p2i, b2i, *]; done) | grind)) (congrArg (fun z => wd K z h) (by unfold m_ask; first | (rw [if_pos (by  grind)] <;> first | rfl | (simp [mN_sI_ne, sI_2, p2i, b2i, *]; done) | grind) | (rw [if_neg (by  grind)] <;> first | rfl | (simp [mN_sI_ne, sI_2, p2i, b2i, *]; done) | grind))) rfl
theorem ds_X3_ask : yX3_ask.cls ≠ "java/lang/invoke/MethodHandle" ∧ yX3_ask.cls ≠ "java/lang/invoke/VarHandle" ∧ (parseMethodDescriptor yX3_ask.desc).map (fun d => d.parameters.length) = some 1 := by decide +kernel
