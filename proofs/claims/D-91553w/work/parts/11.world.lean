/-! THE WORLD: LifeKeys at 1 with its arrays 2..19 (7: the Fault), LifeKeysModel at 20 with its arrays 21..75; what is made behind them lies in h -/
abbrev MS : Type := (Nat → Int32) × (Nat → Nat → Int32) × (Nat → Int64) × Nat
abbrev KS : Type := (Nat → Int32) × (Nat → Nat → Int32) × (Nat → Nat → Option Nat) × Option Nat
def madL : List Nat := [0, 0, 21, 22, 23, 24, 25, 26, 27, 28, 29, 30, 0, 0, 0, 31, 0, 32, 33, 34, 35, 36, 37, 38, 39, 40, 41, 42, 43, 0, 0, 0, 44, 45, 46, 47, 48, 49, 50, 51, 52, 53, 54, 55, 56, 57, 58, 59, 0, 0, 0, 0, 0, 0, 0, 0, 0, 0, 0, 0, 0, 0, 0, 60, 61, 62, 63, 64, 65, 66, 67, 68, 69, 70, 71, 72, 73, 0, 0, 0, 74, 75, 0, 0, 0]
def kadL : List Nat := [0, 0, 2, 0, 3, 0, 0, 0, 0, 4, 5, 0, 0, 6, 0, 7, 8, 0, 9, 10, 11, 12, 13, 0, 0, 14, 0, 15, 0, 0, 16, 17, 18, 0, 19, 0, 0, 0]
def mad (f : Nat) : Nat := madL.getD f 0
def kad (f : Nat) : Nat := kadL.getD f 0
def mfv (S : MS) (f : Nat) : Value := if f = 52 then .ref S.2.2.2 else if f = 62 then .int (nb (S.1 62)) else if mad f = 0 then .int (S.1 f) else .ref (mad f)
def mF (S : MS) : List Value := (List.range 85).map (mfv S)
def kfv (K : KS) (f : Nat) : Value := if f = 8 then va_rf K.2.2.2 else if kad f = 0 then .int (K.1 f) else .ref (kad f)
def kF (K : KS) : List Value := (List.range 38).map (kfv K)
def mty : List (Nat × Nat) := [(0, 40), (0, 40), (0, 40), (0, 40), (0, 40), (0, 600), (0, 600), (0, 600), (2, 600), (2, 12), (1, 160), (0, 40), (0, 40), (0, 40), (0, 40), (0, 40), (0, 40), (0, 40), (0, 40), (0, 40), (0, 480), (0, 12), (0, 12), (3, 12), (1, 3200), (0, 20), (0, 40), (0, 40), (0, 40), (0, 40), (0, 40), (0, 40), (0, 200), (0, 200), (0, 200), (2, 40), (2, 40), (2, 200), (2, 200), (2, 12), (0, 80), (0, 80), (0, 80), (0, 80), (0, 80), (0, 60), (0, 60), (0, 60), (0, 40), (0, 40), (0, 40), (0, 40), (2, 40), (0, 20), (0, 40)]
def kty : List (Nat × Nat) := [(4, 40), (1, 160), (5, 40), (6, 40), (0, 12), (99, 0), (7, 20), (8, 12), (0, 12), (0, 40), (0, 40), (0, 40), (9, 40), (10, 80), (2, 12), (0, 12), (11, 40), (0, 20)]
def mce (S : MS) (a : Nat) (q : Nat × Nat) : gC := if q.1 = 3 then .inl (3, q.2, gal S.2.2.1) else if q.1 = 2 then .inl (2, q.2, gai (fun j => nb (S.2.1 a j))) else if q.1 = 1 then .inl (1, q.2, gai (fun j => n8 (S.2.1 a j))) else .inl (0, q.2, gai (S.2.1 a))
def kce (K : KS) (a : Nat) (q : Nat × Nat) : gC := if q.1 = 99 then .inr (2, []) else if q.1 = 2 then .inl (2, q.2, gai (fun j => nb (K.2.1 a j))) else if q.1 = 1 then .inl (1, q.2, gai (fun j => n8 (K.2.1 a j))) else if q.1 = 0 then .inl (0, q.2, gai (K.2.1 a)) else .inl (q.1, q.2, gaq (K.2.2.1 a))
def wd (K : KS) (S : MS) (h : gHp) : gHp := fun a => if a = 1 then some (.inr (0, kF K)) else if a = 20 then some (.inr (1, mF S)) else if a < 2 then none else if a < 20 then (kty[a - 2]?).map (kce K a) else if a < 76 then (mty[a - 21]?).map (mce S a) else h a
def sI (S : MS) (f : Nat) (x : Int32) : MS := (upd S.1 f x, S.2)
def sA (S : MS) (a : Nat) (g : Nat → Int32) : MS := (S.1, (fun b => if b = a then g else S.2.1 b), S.2.2)
def sE (S : MS) (a i : Nat) (x : Int32) : MS := (S.1, (fun b => if b = a then upd (S.2.1 a) i x else S.2.1 b), S.2.2)
def sL (S : MS) (i : Nat) (x : Int64) : MS := (S.1, S.2.1, vp_updL S.2.2.1 i x, S.2.2.2)
def sT (S : MS) (a : Nat) : MS := (S.1, S.2.1, S.2.2.1, a)
def kI (K : KS) (f : Nat) (x : Int32) : KS := (upd K.1 f x, K.2)
def kE (K : KS) (a i : Nat) (x : Int32) : KS := (K.1, (fun b => if b = a then upd (K.2.1 a) i x else K.2.1 b), K.2.2)
def kR (K : KS) (a i : Nat) (r : Option Nat) : KS := (K.1, K.2.1, (fun b => if b = a then va_up (K.2.2.1 a) i r else K.2.2.1 b), K.2.2.2)
def kW (K : KS) (r : Option Nat) : KS := (K.1, K.2.1, K.2.2.1, r)
theorem mF_len (S : MS) : (mF S).length = 85 := by simp [mF]
theorem kF_len (K : KS) : (kF K).length = 38 := by simp [kF]
theorem mF_at (S : MS) {f : Nat} (h : f < 85) : (mF S)[f]? = some (mfv S f) := by simp [mF, h]
theorem kF_at (K : KS) {f : Nat} (h : f < 38) : (kF K)[f]? = some (kfv K f) := by simp [kF, h]
def mint (f : Nat) : Bool := decide (f < 85) && decide (f ≠ 52) && decide (f ≠ 62) && decide (mad f = 0)
def kint (f : Nat) : Bool := decide (f < 38) && decide (f ≠ 8) && decide (kad f = 0)
theorem mint_v {f : Nat} (h : mint f = true) (S : MS) : f < 85 ∧ mfv S f = .int (S.1 f) := by
  simp only [mint, Bool.and_eq_true, decide_eq_true_eq] at h
  obtain ⟨⟨⟨h1, h2⟩, h3⟩, h4⟩ := h
  exact ⟨h1, by simp [mfv, h2, h3, h4]⟩
theorem kint_v {f : Nat} (h : kint f = true) (K : KS) : f < 38 ∧ kfv K f = .int (K.1 f) := by
  simp only [kint, Bool.and_eq_true, decide_eq_true_eq] at h
  obtain ⟨⟨h1, h2⟩, h4⟩ := h
  exact ⟨h1, by simp [kfv, h2, h4]⟩
theorem wd_20 (K : KS) (S : MS) (h : gHp) : wd K S h 20 = some (.inr (1, mF S)) := rfl
theorem wd_1 (K : KS) (S : MS) (h : gHp) : wd K S h 1 = some (.inr (0, kF K)) := rfl
theorem mty_lt {a : Nat} {q : Nat × Nat} (h : mty[a - 21]? = some q) : a < 76 := by
  have := (List.getElem?_eq_some_iff.mp h).1
  simp [mty] at this
  omega
theorem kty_lt {a : Nat} {q : Nat × Nat} (h : kty[a - 2]? = some q) : a < 20 := by
  have := (List.getElem?_eq_some_iff.mp h).1
  simp [kty] at this
  omega
theorem wd_m {a : Nat} {q : Nat × Nat} (K : KS) (S : MS) (h : gHp) (h1 : 21 ≤ a) (h2 : mty[a - 21]? = some q) : wd K S h a = some (mce S a q) := by
  have h3 := mty_lt h2
  unfold wd
  rw [if_neg (by omega), if_neg (by omega), if_neg (by omega), if_neg (by omega), if_pos h3, h2]
  rfl
theorem wd_k {a : Nat} {q : Nat × Nat} (K : KS) (S : MS) (h : gHp) (h1 : 2 ≤ a) (h2 : kty[a - 2]? = some q) : wd K S h a = some (kce K a q) := by
  have h3 := kty_lt h2
  unfold wd
  rw [if_neg (by omega), if_neg (by omega), if_neg (by omega), if_pos h3, h2]
  rfl
theorem wd_h {a : Nat} (K : KS) (S : MS) (h : gHp) (h1 : 76 ≤ a) : wd K S h a = h a := by
  unfold wd
  rw [if_neg (by omega), if_neg (by omega), if_neg (by omega), if_neg (by omega), if_neg (by omega)]
theorem wd_up (K : KS) (S : MS) (h : gHp) {a : Nat} (e : gC) (h1 : 76 ≤ a) : gup (wd K S h) a e = wd K S (gup h a e) := by
  funext b
  by_cases hb : b = a
  · subst hb
    rw [wd_h _ _ _ h1]
    simp [gup]
  · by_cases h2 : 76 ≤ b
    · rw [wd_h _ _ _ h2]
      simp [gup, hb, wd_h _ _ _ h2]
    · simp only [gup, if_neg hb]
      unfold wd
      by_cases q1 : b = 1
      · rw [if_pos q1, if_pos q1]
      · rw [if_neg q1, if_neg q1]
        by_cases q2 : b = 20
        · rw [if_pos q2, if_pos q2]
        · rw [if_neg q2, if_neg q2]
          by_cases q3 : b < 2
          · rw [if_pos q3, if_pos q3]
          · rw [if_neg q3, if_neg q3]
            by_cases q4 : b < 20
            · rw [if_pos q4, if_pos q4]
            · rw [if_neg q4, if_neg q4, if_pos (by omega), if_pos (by omega)]
theorem mF_set (S S' : MS) {f : Nat} {v : Value} (hf : f < 85) (hv : mfv S' f = v) (ho : ∀ g, g ≠ f → mfv S' g = mfv S g) : (mF S).set f v = mF S' := by
  apply List.ext_getElem?
  intro i
  rw [List.getElem?_set]
  by_cases hi : i < 85
  · rw [mF_at S' hi]
    by_cases e : f = i
    · subst e
      simp [mF_len, hf, hv]
    · simp [e, mF_at S hi, ho i (fun q => e q.symm)]
  · have h1 : (mF S)[i]? = none := by simp [mF_len]; omega
    have h2 : (mF S')[i]? = none := by simp [mF_len]; omega
    rw [h1, h2]
    by_cases e : f = i
    · omega
    · simp [e]
theorem kF_set (K K' : KS) {f : Nat} {v : Value} (hf : f < 38) (hv : kfv K' f = v) (ho : ∀ g, g ≠ f → kfv K' g = kfv K g) : (kF K).set f v = kF K' := by
  apply List.ext_getElem?
  intro i
  rw [List.getElem?_set]
  by_cases hi : i < 38
  · rw [kF_at K' hi]
    by_cases e : f = i
    · subst e
      simp [kF_len, hf, hv]
    · simp [e, kF_at K hi, ho i (fun q => e q.symm)]
  · have h1 : (kF K)[i]? = none := by simp [kF_len]; omega
    have h2 : (kF K')[i]? = none := by simp [kF_len]; omega
    rw [h1, h2]
    by_cases e : f = i
    · omega
    · simp [e]
theorem wd_mset (K : KS) (S S' : MS) (h : gHp) (e1 : S'.2.1 = S.2.1) (e2 : S'.2.2.1 = S.2.2.1) : gup (wd K S h) 20 (.inr (1, mF S')) = wd K S' h := by
  have hm : ∀ a q, mce S' a q = mce S a q := fun a q => by unfold mce; rw [e1, e2]
  have hm2 : ∀ a, mce S' a = mce S a := fun a => funext (hm a)
  funext b
  by_cases hb : b = 20
  · subst hb; rfl
  · simp only [gup, if_neg hb]
    unfold wd
    rw [if_neg hb, if_neg hb, hm2]
theorem wd_kset (K K' : KS) (S : MS) (h : gHp) (e1 : K'.2.1 = K.2.1) (e2 : K'.2.2.1 = K.2.2.1) : gup (wd K S h) 1 (.inr (0, kF K')) = wd K' S h := by
  have hm2 : ∀ a, kce K' a = kce K a := fun a => funext fun q => by unfold kce; rw [e1, e2]
  funext b
  by_cases hb : b = 1
  · subst hb; rfl
  · simp only [gup, if_neg hb]
    unfold wd
    rw [if_neg hb, if_neg hb, hm2]
theorem wd_mcell (K : KS) (S S' : MS) (h : gHp) {a : Nat} {q : Nat × Nat} (h1 : 21 ≤ a) (h2 : mty[a - 21]? = some q) (hF : mF S' = mF S) (ho : ∀ b, b ≠ a → ∀ r, mty[b - 21]? = some r → 21 ≤ b → mce S' b r = mce S b r) : gup (wd K S h) a (mce S' a q) = wd K S' h := by
  have h3 := mty_lt h2
  funext b
  by_cases hb : b = a
  · subst hb
    rw [wd_m _ _ _ h1 h2]
    simp [gup]
  · simp only [gup, if_neg hb]
    unfold wd
    rw [hF]
    by_cases q1 : b = 1
    · rw [if_pos q1, if_pos q1]
    rw [if_neg q1, if_neg q1]
    by_cases q2 : b = 20
    · rw [if_pos q2, if_pos q2]
    rw [if_neg q2, if_neg q2]
    by_cases q3 : b < 2
    · rw [if_pos q3, if_pos q3]
    rw [if_neg q3, if_neg q3]
    by_cases q4 : b < 20
    · rw [if_pos q4, if_pos q4]
    rw [if_neg q4, if_neg q4]
    by_cases q5 : b < 76
    · rw [if_pos q5, if_pos q5]
      cases hr : mty[b - 21]? with
      | none => rfl
      | some r => simp [ho b hb r hr (by omega)]
    · rw [if_neg q5, if_neg q5]
theorem wd_kcell (K K' : KS) (S : MS) (h : gHp) {a : Nat} {q : Nat × Nat} (h1 : 2 ≤ a) (h2 : kty[a - 2]? = some q) (hF : kF K' = kF K) (ho : ∀ b, b ≠ a → ∀ r, kty[b - 2]? = some r → 2 ≤ b → kce K' b r = kce K b r) : gup (wd K S h) a (kce K' a q) = wd K' S h := by
  have h3 := kty_lt h2
  funext b
  by_cases hb : b = a
  · subst hb
    rw [wd_k _ _ _ h1 h2]
    simp [gup]
  · simp only [gup, if_neg hb]
    unfold wd
    rw [hF]
    by_cases q1 : b = 1
    · rw [if_pos q1, if_pos q1]
    rw [if_neg q1, if_neg q1]
    by_cases q2 : b = 20
    · rw [if_pos q2, if_pos q2]
    rw [if_neg q2, if_neg q2]
    by_cases q3 : b < 2
    · rw [if_pos q3, if_pos q3]
    rw [if_neg q3, if_neg q3]
    by_cases q4 : b < 20
    · rw [if_pos q4, if_pos q4]
      cases hr : kty[b - 2]? with
      | none => rfl
      | some r => simp [ho b hb r hr (by omega)]
    · rw [if_neg q4, if_neg q4]
theorem nb_nar (x : Int32) : vp_nar .boolean (nb x) = nb x := by unfold nb; by_cases h : x = 0 <;> simp [h] <;> decide
theorem nb_nb (x : Int32) : nb (nb x) = nb x := by unfold nb; by_cases h : x = 0 <;> simp [h]
theorem n8_n8 (x : Int32) : n8 (n8 x) = n8 x := by simp [n8]
theorem nb_narrow (x : Int32) : narrow .boolean (.int (nb x)) = .int (nb x) := by unfold nb; by_cases h : x = 0 <;> simp [h] <;> decide
theorem nb_fits (x : Int32) : fits .boolean (.int (nb x)) = true := by unfold nb; by_cases h : x = 0 <;> simp [h] <;> decide
def b2i (b : Bool) : Int32 := if b then 1 else 0
theorem b2i_nb (b : Bool) : nb (b2i b) = b2i b := by cases b <;> rfl
theorem b2i_narrow (b : Bool) : narrow .boolean (.int (b2i b)) = .int (b2i b) := by cases b <;> rfl
section MR
variable {X : gXT} {D : gD} {B : Nat × Nat} {cc : ByteArray} {y : MethodName} {nL : Nat} {rt : Option FieldType} {rm : Room} {l : Launch} {n k sl pc : Nat} {L : List (Option Value)} {st : List Value} {K : KS} {S : MS} {h : gHp}

theorem m_geti (C : gX X D B cc y nL rt rm l) (f : Nat) {idx : Nat} {v : Int32} (hd : decode cc pc = .ok (.getfield idx, 3)) (hf : mint f = true) (hlink : Cond.fieldLink y.cls idx RX3 (TX3 f).2.1 (TX3 f).2.2.1 ∈ lw_all) (hr : RX3 = (TX3 f).1) (hv : S.1 f = v) (kk : G X D B (wd K S h) n k sl L (pc + 3) (.int v :: st)) : G X D B (wd K S h) n k sl L pc (.ref 20 :: st) := by
  obtain ⟨h1, h2⟩ := mint_v hf S
  exact g_get C f hd gc_1 (wd_20 K S h) h1 hlink (Or.inl hr) (by rw [mF_at S h1, h2, hv]) kk
theorem m_geta (C : gX X D B cc y nL rt rm l) (f a : Nat) {idx : Nat} (hd : decode cc pc = .ok (.getfield idx, 3)) (hf : f < 85) (ha : ∀ S, mfv S f = .ref a) (hlink : Cond.fieldLink y.cls idx RX3 (TX3 f).2.1 (TX3 f).2.2.1 ∈ lw_all) (hr : RX3 = (TX3 f).1) (kk : G X D B (wd K S h) n k sl L (pc + 3) (.ref a :: st)) : G X D B (wd K S h) n k sl L pc (.ref 20 :: st) := by
  exact g_get C f hd gc_1 (wd_20 K S h) hf hlink (Or.inl hr) (by rw [mF_at S hf, ha]) kk
theorem m_puti (C : gX X D B cc y nL rt rm l) (f : Nat) {idx : Nat} {v : Int32} (hd : decode cc pc = .ok (.putfield idx, 3)) (hf : mint f = true) (hlink : Cond.fieldLink y.cls idx RX3 (TX3 f).2.1 (TX3 f).2.2.1 ∈ lw_all) (hr : RX3 = (TX3 f).1) (hfin : (TX3 f).2.2.2 = false) (hty : tyX3 f = .int) (kk : G X D B (wd K (sI S f v) h) n k sl L (pc + 3) st) : G X D B (wd K S h) n k sl L pc (.int v :: .ref 20 :: st) := by
  obtain ⟨h1, h2⟩ := mint_v hf S
  refine g_put C f hd gc_1 (wd_20 K S h) h1 hlink (Or.inl hr) hfin (by rw [hty]; rfl) (by rw [hty]; rfl) (by rw [mF_len]; exact h1) ?_
  rw [mF_set S (sI S f v) h1 (by rw [(mint_v hf _).2]; simp [sI, upd]) (fun g hg => by unfold mfv sI upd; by_cases q : g = 62 <;> simp_all), wd_mset K S (sI S f v) h rfl rfl]
  exact kk
theorem k_geti (C : gX X D B cc y nL rt rm l) (f : Nat) {idx : Nat} {v : Int32} (hd : decode cc pc = .ok (.getfield idx, 3)) (hf : kint f = true) (hlink : Cond.fieldLink y.cls idx RX1 (TX1 f).2.1 (TX1 f).2.2.1 ∈ lw_all) (hr : RX1 = (TX1 f).1) (hv : K.1 f = v) (kk : G X D B (wd K S h) n k sl L (pc + 3) (.int v :: st)) : G X D B (wd K S h) n k sl L pc (.ref 1 :: st) := by
  obtain ⟨h1, h2⟩ := kint_v hf K
  exact g_get C f hd gc_0 (wd_1 K S h) h1 hlink (Or.inl hr) (by rw [kF_at K h1, h2, hv]) kk
theorem k_geta (C : gX X D B cc y nL rt rm l) (f a : Nat) {idx : Nat} (hd : decode cc pc = .ok (.getfield idx, 3)) (hf : f < 38) (ha : ∀ K, kfv K f = .ref a) (hlink : Cond.fieldLink y.cls idx RX1 (TX1 f).2.1 (TX1 f).2.2.1 ∈ lw_all) (hr : RX1 = (TX1 f).1) (kk : G X D B (wd K S h) n k sl L (pc + 3) (.ref a :: st)) : G X D B (wd K S h) n k sl L pc (.ref 1 :: st) := by
  exact g_get C f hd gc_0 (wd_1 K S h) hf hlink (Or.inl hr) (by rw [kF_at K hf, ha]) kk
theorem k_puti (C : gX X D B cc y nL rt rm l) (f : Nat) {idx : Nat} {v : Int32} (hd : decode cc pc = .ok (.putfield idx, 3)) (hf : kint f = true) (hlink : Cond.fieldLink y.cls idx RX1 (TX1 f).2.1 (TX1 f).2.2.1 ∈ lw_all) (hr : RX1 = (TX1 f).1) (hfin : (TX1 f).2.2.2 = false) (hty : tyX1 f = .int) (kk : G X D B (wd (kI K f v) S h) n k sl L (pc + 3) st) : G X D B (wd K S h) n k sl L pc (.int v :: .ref 1 :: st) := by
  obtain ⟨h1, h2⟩ := kint_v hf K
  refine g_put C f hd gc_0 (wd_1 K S h) h1 hlink (Or.inl hr) hfin (by rw [hty]; rfl) (by rw [hty]; rfl) (by rw [kF_len]; exact h1) ?_
  rw [kF_set K (kI K f v) h1 (by rw [(kint_v hf _).2]; simp [kI, upd]) (fun g hg => by simp [kfv, kI, upd, hg]), wd_kset K (kI K f v) S h rfl rfl]
  exact kk
theorem m_getz (C : gX X D B cc y nL rt rm l) {idx : Nat} {v : Int32} (hd : decode cc pc = .ok (.getfield idx, 3)) (hlink : Cond.fieldLink y.cls idx RX3 (TX3 62).2.1 (TX3 62).2.2.1 ∈ lw_all) (hv : nb (S.1 62) = v) (kk : G X D B (wd K S h) n k sl L (pc + 3) (.int v :: st)) : G X D B (wd K S h) n k sl L pc (.ref 20 :: st) :=
  g_get C 62 hd gc_1 (wd_20 K S h) (by decide) hlink (Or.inl rfl) (by rw [mF_at S (by decide), ← hv]; rfl) kk
theorem m_gett (C : gX X D B cc y nL rt rm l) {idx a : Nat} (hd : decode cc pc = .ok (.getfield idx, 3)) (hlink : Cond.fieldLink y.cls idx RX3 (TX3 52).2.1 (TX3 52).2.2.1 ∈ lw_all) (ha : S.2.2.2 = a) (kk : G X D B (wd K S h) n k sl L (pc + 3) (.ref a :: st)) : G X D B (wd K S h) n k sl L pc (.ref 20 :: st) :=
  g_get C 52 hd gc_1 (wd_20 K S h) (by decide) hlink (Or.inl rfl) (by rw [mF_at S (by decide), ← ha]; rfl) kk
theorem m_putz (C : gX X D B cc y nL rt rm l) {idx : Nat} {v : Int32} (hd : decode cc pc = .ok (.putfield idx, 3)) (hlink : Cond.fieldLink y.cls idx RX3 (TX3 62).2.1 (TX3 62).2.2.1 ∈ lw_all) (hv : nb v = v) (kk : G X D B (wd K (sI S 62 v) h) n k sl L (pc + 3) st) : G X D B (wd K S h) n k sl L pc (.int v :: .ref 20 :: st) := by
  refine g_put C 62 hd gc_1 (wd_20 K S h) (by decide) hlink (Or.inl rfl) rfl (by rw [← hv]; exact nb_narrow v) (by rw [← hv]; exact nb_fits v) (by rw [mF_len]; decide) ?_
  rw [mF_set S (sI S 62 v) (by decide) (by simp [mfv, sI, upd, hv]) (fun g hg => by simp [mfv, sI, upd, hg]), wd_mset K S (sI S 62 v) h rfl rfl]
  exact kk
theorem m_putt (C : gX X D B cc y nL rt rm l) {idx a : Nat} (hd : decode cc pc = .ok (.putfield idx, 3)) (hlink : Cond.fieldLink y.cls idx RX3 (TX3 52).2.1 (TX3 52).2.2.1 ∈ lw_all) (kk : G X D B (wd K (sT S a) h) n k sl L (pc + 3) st) : G X D B (wd K S h) n k sl L pc (.ref a :: .ref 20 :: st) := by
  refine g_put C 52 hd gc_1 (wd_20 K S h) (by decide) hlink (Or.inl rfl) rfl rfl rfl (by rw [mF_len]; decide) ?_
  rw [mF_set S (sT S a) (by decide) (by simp [mfv, sT]) (fun g hg => by simp [mfv, sT, hg]), wd_mset K S (sT S a) h rfl rfl]
  exact kk
theorem k_getw (C : gX X D B cc y nL rt rm l) {idx : Nat} {r : Option Nat} (hd : decode cc pc = .ok (.getfield idx, 3)) (hlink : Cond.fieldLink y.cls idx RX1 (TX1 8).2.1 (TX1 8).2.2.1 ∈ lw_all) (hv : K.2.2.2 = r) (kk : G X D B (wd K S h) n k sl L (pc + 3) (va_rf r :: st)) : G X D B (wd K S h) n k sl L pc (.ref 1 :: st) :=
  g_get C 8 hd gc_0 (wd_1 K S h) (by decide) hlink (Or.inl rfl) (by rw [kF_at K (by decide), ← hv]; rfl) kk
theorem k_putw (C : gX X D B cc y nL rt rm l) {idx a : Nat} (hd : decode cc pc = .ok (.putfield idx, 3)) (hlink : Cond.fieldLink y.cls idx RX1 (TX1 8).2.1 (TX1 8).2.2.1 ∈ lw_all) (kk : G X D B (wd (kW K (some a)) S h) n k sl L (pc + 3) st) : G X D B (wd K S h) n k sl L pc (.ref a :: .ref 1 :: st) := by
  refine g_put C 8 hd gc_0 (wd_1 K S h) (by decide) hlink (Or.inl rfl) rfl rfl rfl (by rw [kF_len]; decide) ?_
  rw [kF_set K (kW K (some a)) (by decide) (by simp [kfv, kW, va_rf]) (fun g hg => by simp [kfv, kW, hg]), wd_kset K (kW K (some a)) S h rfl rfl]
  exact kk
theorem m_iald (C : gX X D B cc y nL rt rm l) {a N : Nat} {i v : Int32} (hd : decode cc pc = .ok (.iaload, 1)) (h1 : 21 ≤ a) (ha : mty[a - 21]? = some (0, N)) (hin : vp_in i N) (hv : (S.2.1 a) i.toNatClampNeg = v) (kk : G X D B (wd K S h) n k sl L (pc + 1) (.int v :: st)) : G X D B (wd K S h) n k sl L pc (.int i :: .ref a :: st) := by
  subst hv
  exact g_iald C hd ((wd_m K S h h1 ha).trans rfl) hin kk
theorem m_bald (C : gX X D B cc y nL rt rm l) {a N : Nat} {i v : Int32} (hd : decode cc pc = .ok (.baload, 1)) (h1 : 21 ≤ a) (ha : mty[a - 21]? = some (1, N)) (hin : vp_in i N) (hv : n8 ((S.2.1 a) i.toNatClampNeg) = v) (kk : G X D B (wd K S h) n k sl L (pc + 1) (.int v :: st)) : G X D B (wd K S h) n k sl L pc (.int i :: .ref a :: st) := by
  subst hv
  exact g_bald C hd ((wd_m K S h h1 ha).trans rfl) hin kk
theorem m_zald (C : gX X D B cc y nL rt rm l) {a N : Nat} {i v : Int32} (hd : decode cc pc = .ok (.baload, 1)) (h1 : 21 ≤ a) (ha : mty[a - 21]? = some (2, N)) (hin : vp_in i N) (hv : nb ((S.2.1 a) i.toNatClampNeg) = v) (kk : G X D B (wd K S h) n k sl L (pc + 1) (.int v :: st)) : G X D B (wd K S h) n k sl L pc (.int i :: .ref a :: st) := by
  subst hv
  exact g_zald C hd ((wd_m K S h h1 ha).trans rfl) hin kk
theorem m_iast (C : gX X D B cc y nL rt rm l) {a N j : Nat} {i x : Int32} (hd : decode cc pc = .ok (.iastore, 1)) (h1 : 21 ≤ a) (ha : mty[a - 21]? = some (0, N)) (hin : vp_in i N) (hj : i.toNatClampNeg = j) (kk : G X D B (wd K (sE S a j x) h) n k sl L (pc + 1) st) : G X D B (wd K S h) n k sl L pc (.int x :: .int i :: .ref a :: st) := by
  subst hj
  refine g_iast C hd ((wd_m K S h h1 ha).trans rfl) hin ?_
  have e1 : (Sum.inl (0, N, gai (upd (S.2.1 a) i.toNatClampNeg x)) : gC) = mce (sE S a i.toNatClampNeg x) a (0, N) := by
    simp [mce, sE]
  rw [e1, wd_mcell K S (sE S a i.toNatClampNeg x) h h1 ha rfl (fun b hb r hr _ => by simp [mce, sE, hb])]
  exact kk
theorem m_bast (C : gX X D B cc y nL rt rm l) {a N j : Nat} {i x : Int32} (hd : decode cc pc = .ok (.bastore, 1)) (h1 : 21 ≤ a) (ha : mty[a - 21]? = some (1, N)) (hin : vp_in i N) (hj : i.toNatClampNeg = j) (kk : G X D B (wd K (sE S a j (n8 x)) h) n k sl L (pc + 1) st) : G X D B (wd K S h) n k sl L pc (.int x :: .int i :: .ref a :: st) := by
  subst hj
  refine g_bast C hd ((wd_m K S h h1 ha).trans rfl) hin ?_
  have e0 : (upd (fun j => n8 ((S.2.1 a) j)) i.toNatClampNeg (vp_nar .byte x)) = (fun j => n8 ((sE S a i.toNatClampNeg (n8 x)).2.1 a j)) := by
    funext j
    by_cases hj : j = i.toNatClampNeg
    · subst hj
      simp [sE, upd, vp_nar_byte, n8]
    · simp [sE, upd, hj]
  have e1 : (Sum.inl (1, N, gai (upd (fun j => n8 ((S.2.1 a) j)) i.toNatClampNeg (vp_nar .byte x))) : gC) = mce (sE S a i.toNatClampNeg (n8 x)) a (1, N) := by
    rw [e0]; rfl
  rw [e1, wd_mcell K S (sE S a i.toNatClampNeg (n8 x)) h h1 ha rfl (fun b hb r hr _ => by simp [mce, sE, hb])]
  exact kk
theorem m_zast (C : gX X D B cc y nL rt rm l) {a N j : Nat} {i x : Int32} (hd : decode cc pc = .ok (.bastore, 1)) (h1 : 21 ≤ a) (ha : mty[a - 21]? = some (2, N)) (hin : vp_in i N) (hj : i.toNatClampNeg = j) (hv : nb x = x) (kk : G X D B (wd K (sE S a j x) h) n k sl L (pc + 1) st) : G X D B (wd K S h) n k sl L pc (.int x :: .int i :: .ref a :: st) := by
  subst hj
  refine g_zast C hd ((wd_m K S h h1 ha).trans rfl) hin ?_
  have e0 : (upd (fun j => nb ((S.2.1 a) j)) i.toNatClampNeg (vp_nar .boolean x)) = (fun j => nb ((sE S a i.toNatClampNeg x).2.1 a j)) := by
    funext j
    by_cases hj : j = i.toNatClampNeg
    · subst hj
      simp only [sE, upd, if_true]
      rw [hv, ← hv, nb_nar]
    · simp [sE, upd, hj]
  have e1 : (Sum.inl (2, N, gai (upd (fun j => nb ((S.2.1 a) j)) i.toNatClampNeg (vp_nar .boolean x))) : gC) = mce (sE S a i.toNatClampNeg x) a (2, N) := by
    rw [e0]; rfl
  rw [e1, wd_mcell K S (sE S a i.toNatClampNeg x) h h1 ha rfl (fun b hb r hr _ => by simp [mce, sE, hb])]
  exact kk
theorem k_iald (C : gX X D B cc y nL rt rm l) {a N : Nat} {i v : Int32} (hd : decode cc pc = .ok (.iaload, 1)) (h1 : 2 ≤ a) (ha : kty[a - 2]? = some (0, N)) (hin : vp_in i N) (hv : (K.2.1 a) i.toNatClampNeg = v) (kk : G X D B (wd K S h) n k sl L (pc + 1) (.int v :: st)) : G X D B (wd K S h) n k sl L pc (.int i :: .ref a :: st) := by
  subst hv
  exact g_iald C hd ((wd_k K S h h1 ha).trans rfl) hin kk
theorem k_bald (C : gX X D B cc y nL rt rm l) {a N : Nat} {i v : Int32} (hd : decode cc pc = .ok (.baload, 1)) (h1 : 2 ≤ a) (ha : kty[a - 2]? = some (1, N)) (hin : vp_in i N) (hv : n8 ((K.2.1 a) i.toNatClampNeg) = v) (kk : G X D B (wd K S h) n k sl L (pc + 1) (.int v :: st)) : G X D B (wd K S h) n k sl L pc (.int i :: .ref a :: st) := by
  subst hv
  exact g_bald C hd ((wd_k K S h h1 ha).trans rfl) hin kk
theorem k_zald (C : gX X D B cc y nL rt rm l) {a N : Nat} {i v : Int32} (hd : decode cc pc = .ok (.baload, 1)) (h1 : 2 ≤ a) (ha : kty[a - 2]? = some (2, N)) (hin : vp_in i N) (hv : nb ((K.2.1 a) i.toNatClampNeg) = v) (kk : G X D B (wd K S h) n k sl L (pc + 1) (.int v :: st)) : G X D B (wd K S h) n k sl L pc (.int i :: .ref a :: st) := by
  subst hv
  exact g_zald C hd ((wd_k K S h h1 ha).trans rfl) hin kk
theorem k_iast (C : gX X D B cc y nL rt rm l) {a N j : Nat} {i x : Int32} (hd : decode cc pc = .ok (.iastore, 1)) (h1 : 2 ≤ a) (ha : kty[a - 2]? = some (0, N)) (hin : vp_in i N) (hj : i.toNatClampNeg = j) (kk : G X D B (wd (kE K a j x) S h) n k sl L (pc + 1) st) : G X D B (wd K S h) n k sl L pc (.int x :: .int i :: .ref a :: st) := by
  subst hj
  refine g_iast C hd ((wd_k K S h h1 ha).trans rfl) hin ?_
  have e1 : (Sum.inl (0, N, gai (upd (K.2.1 a) i.toNatClampNeg x)) : gC) = kce (kE K a i.toNatClampNeg x) a (0, N) := by
    simp [kce, kE]
  rw [e1, wd_kcell K (kE K a i.toNatClampNeg x) S h h1 ha rfl (fun b hb r hr _ => by simp [kce, kE, hb])]
  exact kk
theorem k_bast (C : gX X D B cc y nL rt rm l) {a N j : Nat} {i x : Int32} (hd : decode cc pc = .ok (.bastore, 1)) (h1 : 2 ≤ a) (ha : kty[a - 2]? = some (1, N)) (hin : vp_in i N) (hj : i.toNatClampNeg = j) (kk : G X D B (wd (kE K a j (n8 x)) S h) n k sl L (pc + 1) st) : G X D B (wd K S h) n k sl L pc (.int x :: .int i :: .ref a :: st) := by
  subst hj
  refine g_bast C hd ((wd_k K S h h1 ha).trans rfl) hin ?_
  have e0 : (upd (fun j => n8 ((K.2.1 a) j)) i.toNatClampNeg (vp_nar .byte x)) = (fun j => n8 ((kE K a i.toNatClampNeg (n8 x)).2.1 a j)) := by
    funext j
    by_cases hj : j = i.toNatClampNeg
    · subst hj
      simp [kE, upd, vp_nar_byte, n8]
    · simp [kE, upd, hj]
  have e1 : (Sum.inl (1, N, gai (upd (fun j => n8 ((K.2.1 a) j)) i.toNatClampNeg (vp_nar .byte x))) : gC) = kce (kE K a i.toNatClampNeg (n8 x)) a (1, N) := by
    rw [e0]; rfl
  rw [e1, wd_kcell K (kE K a i.toNatClampNeg (n8 x)) S h h1 ha rfl (fun b hb r hr _ => by simp [kce, kE, hb])]
  exact kk
theorem k_zast (C : gX X D B cc y nL rt rm l) {a N j : Nat} {i x : Int32} (hd : decode cc pc = .ok (.bastore, 1)) (h1 : 2 ≤ a) (ha : kty[a - 2]? = some (2, N)) (hin : vp_in i N) (hj : i.toNatClampNeg = j) (hv : nb x = x) (kk : G X D B (wd (kE K a j x) S h) n k sl L (pc + 1) st) : G X D B (wd K S h) n k sl L pc (.int x :: .int i :: .ref a :: st) := by
  subst hj
  refine g_zast C hd ((wd_k K S h h1 ha).trans rfl) hin ?_
  have e0 : (upd (fun j => nb ((K.2.1 a) j)) i.toNatClampNeg (vp_nar .boolean x)) = (fun j => nb ((kE K a i.toNatClampNeg x).2.1 a j)) := by
    funext j
    by_cases hj : j = i.toNatClampNeg
    · subst hj
      simp only [kE, upd, if_true]
      rw [hv, ← hv, nb_nar]
    · simp [kE, upd, hj]
  have e1 : (Sum.inl (2, N, gai (upd (fun j => nb ((K.2.1 a) j)) i.toNatClampNeg (vp_nar .boolean x))) : gC) = kce (kE K a i.toNatClampNeg x) a (2, N) := by
    rw [e0]; rfl
  rw [e1, wd_kcell K (kE K a i.toNatClampNeg x) S h h1 ha rfl (fun b hb r hr _ => by simp [kce, kE, hb])]
  exact kk
theorem m_lald (C : gX X D B cc y nL rt rm l) {i : Int32} {v : Int64} (hd : decode cc pc = .ok (.laload, 1)) (hin : vp_in i 12) (hv : S.2.2.1 i.toNatClampNeg = v) (kk : G X D B (wd K S h) n k sl L (pc + 1) (.long v :: st)) : G X D B (wd K S h) n k sl L pc (.int i :: .ref 44 :: st) := by
  subst hv
  exact g_lald C hd (show wd K S h 44 = some (.inl (3, 12, gal S.2.2.1)) from rfl) hin kk
theorem m_last (C : gX X D B cc y nL rt rm l) {i : Int32} {x : Int64} {j : Nat} (hd : decode cc pc = .ok (.lastore, 1)) (hin : vp_in i 12) (hj : i.toNatClampNeg = j) (kk : G X D B (wd K (sL S j x) h) n k sl L (pc + 1) st) : G X D B (wd K S h) n k sl L pc (.long x :: .int i :: .ref 44 :: st) := by
  subst hj
  refine g_last C hd (show wd K S h 44 = some (.inl (3, 12, gal S.2.2.1)) from rfl) hin ?_
  have e1 : (Sum.inl (3, 12, gal (vp_updL S.2.2.1 i.toNatClampNeg x)) : gC) = mce (sL S i.toNatClampNeg x) 44 (3, 12) := rfl
  rw [e1, wd_mcell K S (sL S i.toNatClampNeg x) h (by decide) rfl rfl (fun b hb r hr h21 => ?_)]
  · exact kk
  · have hne : r.1 ≠ 3 := by
      have hb2 := mty_lt hr
      intro h3
      have hall : ∀ c, c < 55 → ∀ r, mty[c]? = some r → r.1 = 3 → c = 23 := by decide
      have := hall (b - 21) (by omega) r hr h3
      omega
    simp [mce, sL, hne]
theorem k_aald (C : gX X D B cc y nL rt rm l) {a N t : Nat} {Cn : String} {i : Int32} {r : Option Nat} (hd : decode cc pc = .ok (.aaload, 1)) (h1 : 2 ≤ a) (ha : kty[a - 2]? = some (t, N)) (ht : (gtys D)[t]? = some (D.2 t, .object Cn)) (ht2 : 3 < t ∧ t < 99) (hin : vp_in i N) (hv : (K.2.2.1 a) i.toNatClampNeg = r) (kk : G X D B (wd K S h) n k sl L (pc + 1) (va_rf r :: st)) : G X D B (wd K S h) n k sl L pc (.int i :: .ref a :: st) := by
  subst hv
  refine g_aald (f := K.2.2.1 a) C hd ht ((wd_k K S h h1 ha).trans ?_) hin kk
  simp only [kce]
  rw [if_neg (by omega), if_neg (by omega), if_neg (by omega), if_neg (by omega)]
theorem k_aast (C : gX X D B cc y nL rt rm l) {a N t v ci : Nat} {E : String} {r : vw_C} {fs : List Value} {i : Int32} (hd : decode cc pc = .ok (.aastore, 1)) (h1 : 2 ≤ a) (ha : kty[a - 2]? = some (t, N)) (ht : (gtys D)[t]? = some (D.2 t, .object E)) (ht2 : 3 < t ∧ t < 99) (hv : wd K S h v = some (.inr (ci, fs))) (hc : gcl[ci]? = some r) (hcan : gcan r.1 E) (hin : vp_in i N) {j : Nat} (hj : i.toNatClampNeg = j) (kk : G X D B (wd (kR K a j (some v)) S h) n k sl L (pc + 1) st) : G X D B (wd K S h) n k sl L pc (.ref v :: .int i :: .ref a :: st) := by
  subst hj
  have e2 : kce K a (t, N) = .inl (t, N, gaq (K.2.2.1 a)) := by
    simp only [kce]
    rw [if_neg (by omega), if_neg (by omega), if_neg (by omega), if_neg (by omega)]
  refine g_aast (f := K.2.2.1 a) C hd ht ((wd_k K S h h1 ha).trans (by rw [e2])) hv hc hcan hin ?_
  have e1 : (Sum.inl (t, N, gaq (va_up (K.2.2.1 a) i.toNatClampNeg (some v))) : gC) = kce (kR K a i.toNatClampNeg (some v)) a (t, N) := by
    simp only [kce]
    rw [if_neg (by omega), if_neg (by omega), if_neg (by omega), if_neg (by omega)]
    simp [kR]
  rw [e1, wd_kcell K (kR K a i.toNatClampNeg (some v)) S h h1 ha rfl (fun b hb r hr _ => by simp [kce, kR, hb])]
  exact kk
end MR
theorem sI_same (S : MS) (f : Nat) (x : Int32) : (sI S f x).1 f = x := by simp [sI, upd]
theorem sI_ne (S : MS) {f g : Nat} (x : Int32) (h : g ≠ f) : (sI S f x).1 g = S.1 g := by simp [sI, upd, h]
