/-! deterministic contracts: start, calls, ends; helpers -/
set_option maxHeartbeats 1000000 in
theorem Con.begin {l : Launch} {y : MethodName} {cc : ByteArray} {maxL : Nat} {ret : Option FieldType} {rm : Room} {D : gD} {B : Nat × Nat} {args : List Value} {h : gHp} {n : Nat} {Q : Option Value → gHp → Nat → Prop} {mc ms : Nat} (L0 : List (Option Value)) (hL0 : gsl args ++ List.replicate (maxL - (gsl args).length) none = L0) (hy : plainFor y = true) (hsz : (gsl args).length ≤ maxL) (hrc : rm.cells = mc) (hrs : rm.slots = ms)
    (body : ∀ X, gX X D B cc y maxL ret rm l → gQ X D B Q mc ms → G X D B h n 0 0 L0 0 []) : Con l y (ws_ y cc maxL ret) rm D B args h n Q mc ms := by
  refine Con.start hy hsz hrc hrs (fun X C R => ?_)
  have hb := body X C R
  obtain ⟨p, l', e, R', s, m, a, below, meth, c, Q'⟩ := X
  intro H locs ls hH hS hL
  refine hb H locs ls hH hS ⟨hL.1, hL.2.1, fun i v hi => hL.2.2 i v ?_⟩
  rw [← hL0] at hi
  by_cases hlt : i < (gsl args).length
  · rwa [List.getElem?_append_left hlt] at hi
  · rw [List.getElem?_append_right (by omega)] at hi
    have := List.getElem?_eq_some_iff.mp hi
    obtain ⟨h1, h2⟩ := this
    rw [List.getElem_replicate] at h2
    cases h2
section GR2
variable {X : gXT} {D : gD} {B : Nat × Nat} {cc : ByteArray} {y : MethodName} {nL : Nat} {rt : Option FieldType} {rm : Room} {l : Launch} {h : gHp} {n k sl pc : Nat} {L L' : List (Option Value)} {st : List Value}
theorem g_callVD (C : gX X D B cc y nL rt rm l) {a ci : Nat} {r : vw_C} {fs : List Value} {y' : MethodName} {bytes : ByteArray} {maxL idx mc ms k' sl' : Nat} {ret : Option FieldType} {rm' : Room} {v0 : Value} {h0 : gHp} {n0 : Nat} {st0 : List Value} (As : List Value) (st : List Value) (hd : decode cc pc = .ok (.invokevirtual idx, 3)) (hM : Con l y' (ws_ y' bytes maxL ret) rm' D B (.ref a :: As) h n (gdt (some v0) h0 n0) mc ms) (hG : GoodIn lw_all (wsV y.cls idx y'.cls y' (ws_ y' bytes maxL ret))) (ha : h a = some (.inr (ci, fs))) (hc : gcl[ci]? = some r) (hrn : r.1 = y'.cls) (hdsc : y'.cls ≠ "java/lang/invoke/MethodHandle" ∧ y'.cls ≠ "java/lang/invoke/VarHandle" ∧ (parseMethodDescriptor y'.desc).map (fun d => d.parameters.length) = some As.length) (hrm : rm'.cells = mc ∧ rm'.slots = ms) (hR : rm'.frames + 1 ≤ rm.frames ∧ 8 + (maxL + 11) + rm'.locals ≤ rm.locals) (hk : k + mc = k') (hsl : sl + ms = sl') (hf : k' ≤ rm.cells ∧ sl' ≤ rm.slots) (h8 : (st.map fun v => v.category).sum ≤ 8) (hstk : st0 = As.reverse ++ .ref a :: st) (kk : G X D B h0 n0 k' sl' L (pc + 3) (v0 :: st)) : G X D B h n k sl L pc st0 := by
  subst hk
  subst hsl
  refine g_callV C As st hd hM hG ha hc hrn hdsc hrm hR hf h8 hstk (fun v h' n' hq => ?_)
  obtain ⟨rfl, rfl, rfl⟩ := hq
  exact kk
theorem g_callVDv (C : gX X D B cc y nL rt rm l) {a ci : Nat} {r : vw_C} {fs : List Value} {y' : MethodName} {bytes : ByteArray} {maxL idx mc ms k' sl' : Nat} {ret : Option FieldType} {rm' : Room} {h0 : gHp} {n0 : Nat} {st0 : List Value} (As : List Value) (st : List Value) (hd : decode cc pc = .ok (.invokevirtual idx, 3)) (hM : Con l y' (ws_ y' bytes maxL ret) rm' D B (.ref a :: As) h n (gdt none h0 n0) mc ms) (hG : GoodIn lw_all (wsV y.cls idx y'.cls y' (ws_ y' bytes maxL ret))) (ha : h a = some (.inr (ci, fs))) (hc : gcl[ci]? = some r) (hrn : r.1 = y'.cls) (hdsc : y'.cls ≠ "java/lang/invoke/MethodHandle" ∧ y'.cls ≠ "java/lang/invoke/VarHandle" ∧ (parseMethodDescriptor y'.desc).map (fun d => d.parameters.length) = some As.length) (hrm : rm'.cells = mc ∧ rm'.slots = ms) (hR : rm'.frames + 1 ≤ rm.frames ∧ 8 + (maxL + 11) + rm'.locals ≤ rm.locals) (hk : k + mc = k') (hsl : sl + ms = sl') (hf : k' ≤ rm.cells ∧ sl' ≤ rm.slots) (h8 : (st.map fun v => v.category).sum ≤ 8) (hstk : st0 = As.reverse ++ .ref a :: st) (kk : G X D B h0 n0 k' sl' L (pc + 3) st) : G X D B h n k sl L pc st0 := by
  subst hk
  subst hsl
  refine g_callV C As st hd hM hG ha hc hrn hdsc hrm hR hf h8 hstk (fun v h' n' hq => ?_)
  obtain ⟨rfl, rfl, rfl⟩ := hq
  exact kk
theorem g_callSD (C : gX X D B cc y nL rt rm l) {y' : MethodName} {bytes : ByteArray} {maxL idx mc ms k' sl' : Nat} {ret : Option FieldType} {rm' : Room} {v0 : Value} {h0 : gHp} {n0 : Nat} {st0 : List Value} (As : List Value) (st : List Value) (hd : decode cc pc = .ok (.invokestatic idx, 3)) (hM : Con l y' (ws_ y' bytes maxL ret) rm' D B As h n (gdt (some v0) h0 n0) mc ms) (hG : GoodIn lw_all (va_wsS y.cls idx y' (ws_ y' bytes maxL ret))) (hdsc : y'.cls ≠ "java/lang/invoke/MethodHandle" ∧ y'.cls ≠ "java/lang/invoke/VarHandle" ∧ (parseMethodDescriptor y'.desc).map (fun d => d.parameters.length) = some As.length) (hrm : rm'.cells = mc ∧ rm'.slots = ms) (hR : rm'.frames + 1 ≤ rm.frames ∧ 8 + (maxL + 11) + rm'.locals ≤ rm.locals) (hk : k + mc = k') (hsl : sl + ms = sl') (hf : k' ≤ rm.cells ∧ sl' ≤ rm.slots) (h8 : (st.map fun v => v.category).sum ≤ 8) (hstk : st0 = As.reverse ++ st) (kk : G X D B h0 n0 k' sl' L (pc + 3) (v0 :: st)) : G X D B h n k sl L pc st0 := by
  subst hk
  subst hsl
  refine g_callS C As st hd hM hG hdsc hrm hR hf h8 hstk (fun v h' n' hq => ?_)
  obtain ⟨rfl, rfl, rfl⟩ := hq
  exact kk
theorem g_callSDv (C : gX X D B cc y nL rt rm l) {y' : MethodName} {bytes : ByteArray} {maxL idx mc ms k' sl' : Nat} {ret : Option FieldType} {rm' : Room} {h0 : gHp} {n0 : Nat} {st0 : List Value} (As : List Value) (st : List Value) (hd : decode cc pc = .ok (.invokestatic idx, 3)) (hM : Con l y' (ws_ y' bytes maxL ret) rm' D B As h n (gdt none h0 n0) mc ms) (hG : GoodIn lw_all (va_wsS y.cls idx y' (ws_ y' bytes maxL ret))) (hdsc : y'.cls ≠ "java/lang/invoke/MethodHandle" ∧ y'.cls ≠ "java/lang/invoke/VarHandle" ∧ (parseMethodDescriptor y'.desc).map (fun d => d.parameters.length) = some As.length) (hrm : rm'.cells = mc ∧ rm'.slots = ms) (hR : rm'.frames + 1 ≤ rm.frames ∧ 8 + (maxL + 11) + rm'.locals ≤ rm.locals) (hk : k + mc = k') (hsl : sl + ms = sl') (hf : k' ≤ rm.cells ∧ sl' ≤ rm.slots) (h8 : (st.map fun v => v.category).sum ≤ 8) (hstk : st0 = As.reverse ++ st) (kk : G X D B h0 n0 k' sl' L (pc + 3) st) : G X D B h n k sl L pc st0 := by
  subst hk
  subst hsl
  refine g_callS C As st hd hM hG hdsc hrm hR hf h8 hstk (fun v h' n' hq => ?_)
  obtain ⟨rfl, rfl, rfl⟩ := hq
  exact kk
theorem g_callID (C : gX X D B cc y nL rt rm l) {a : Nat} {y' : MethodName} {bytes : ByteArray} {maxL idx mc ms k' sl' : Nat} {ret : Option FieldType} {rm' : Room} {v0 : Value} {h0 : gHp} {n0 : Nat} {st0 : List Value} (As : List Value) (st : List Value) (hd : decode cc pc = .ok (.invokespecial idx, 3)) (hM : Con l y' (ws_ y' bytes maxL ret) rm' D B (.ref a :: As) h n (gdt (some v0) h0 n0) mc ms) (hG : Cond.code y' bytes maxL ret ∈ lw_all) (hret : ret = none) (hini : Cond.initialized y'.cls ∈ lw_all) (hl : Cond.methodLink y.cls idx y' ∈ lw_all) (hin : Cond.instanceMethod y' ∈ lw_all) (hy1 : y'.name = "<init>") (hdsc : y'.cls ≠ "java/lang/invoke/MethodHandle" ∧ y'.cls ≠ "java/lang/invoke/VarHandle" ∧ (parseMethodDescriptor y'.desc).map (fun d => d.parameters.length) = some As.length) (hrm : rm'.cells = mc ∧ rm'.slots = ms) (hR : rm'.frames + 1 ≤ rm.frames ∧ 8 + (maxL + 11) + rm'.locals ≤ rm.locals) (hk : k + mc = k') (hsl : sl + ms = sl') (hf : k' ≤ rm.cells ∧ sl' ≤ rm.slots) (h8 : (st.map fun v => v.category).sum ≤ 8) (hstk : st0 = As.reverse ++ .ref a :: st) (kk : G X D B h0 n0 k' sl' L (pc + 3) (v0 :: st)) : G X D B h n k sl L pc st0 := by
  subst hk
  subst hsl
  refine g_callI C As st hd hM hG hret hini hl hin hy1 hdsc hrm hR hf h8 hstk (fun v h' n' hq => ?_)
  obtain ⟨rfl, rfl, rfl⟩ := hq
  exact kk
theorem g_callIDv (C : gX X D B cc y nL rt rm l) {a : Nat} {y' : MethodName} {bytes : ByteArray} {maxL idx mc ms k' sl' : Nat} {ret : Option FieldType} {rm' : Room} {h0 : gHp} {n0 : Nat} {st0 : List Value} (As : List Value) (st : List Value) (hd : decode cc pc = .ok (.invokespecial idx, 3)) (hM : Con l y' (ws_ y' bytes maxL ret) rm' D B (.ref a :: As) h n (gdt none h0 n0) mc ms) (hG : Cond.code y' bytes maxL ret ∈ lw_all) (hret : ret = none) (hini : Cond.initialized y'.cls ∈ lw_all) (hl : Cond.methodLink y.cls idx y' ∈ lw_all) (hin : Cond.instanceMethod y' ∈ lw_all) (hy1 : y'.name = "<init>") (hdsc : y'.cls ≠ "java/lang/invoke/MethodHandle" ∧ y'.cls ≠ "java/lang/invoke/VarHandle" ∧ (parseMethodDescriptor y'.desc).map (fun d => d.parameters.length) = some As.length) (hrm : rm'.cells = mc ∧ rm'.slots = ms) (hR : rm'.frames + 1 ≤ rm.frames ∧ 8 + (maxL + 11) + rm'.locals ≤ rm.locals) (hk : k + mc = k') (hsl : sl + ms = sl') (hf : k' ≤ rm.cells ∧ sl' ≤ rm.slots) (h8 : (st.map fun v => v.category).sum ≤ 8) (hstk : st0 = As.reverse ++ .ref a :: st) (kk : G X D B h0 n0 k' sl' L (pc + 3) st) : G X D B h n k sl L pc st0 := by
  subst hk
  subst hsl
  refine g_callI C As st hd hM hG hret hini hl hin hy1 hdsc hrm hR hf h8 hstk (fun v h' n' hq => ?_)
  obtain ⟨rfl, rfl, rfl⟩ := hq
  exact kk
theorem g_iretD (C : gX X D B cc y nL (some .int) rm l) {v v0 : Int32} {h0 : gHp} {n0 mc ms : Nat} (hQ : gQ X D B (gdt (some (.int v0)) h0 n0) mc ms) (hd : decode cc pc = .ok (.ireturn, 1)) (hk : k ≤ mc) (hs : sl ≤ ms) (hv : v = v0) (hh : h = h0) (hn : n = n0) : G X D B h n k sl L pc [.int v] :=
  g_iret C hQ hd hk hs (by subst hv; exact ⟨rfl, hh, hn⟩)
theorem g_zretD (C : gX X D B cc y nL (some .boolean) rm l) {v v0 : Int32} {h0 : gHp} {n0 mc ms : Nat} (hnb : nb v0 = v0) (hQ : gQ X D B (gdt (some (.int v0)) h0 n0) mc ms) (hd : decode cc pc = .ok (.ireturn, 1)) (hk : k ≤ mc) (hs : sl ≤ ms) (hv : v = v0) (hh : h = h0) (hn : n = n0) : G X D B h n k sl L pc [.int v] :=
  g_zret C (by rw [hv, ← hnb]; exact nb_narrow v0) hQ hd hk hs (by subst hv; exact ⟨rfl, hh, hn⟩)
theorem g_lretD (C : gX X D B cc y nL (some .long) rm l) {v v0 : Int64} {h0 : gHp} {n0 mc ms : Nat} (hQ : gQ X D B (gdt (some (.long v0)) h0 n0) mc ms) (hd : decode cc pc = .ok (.lreturn, 1)) (hk : k ≤ mc) (hs : sl ≤ ms) (hv : v = v0) (hh : h = h0) (hn : n = n0) : G X D B h n k sl L pc [.long v] :=
  g_lret C hQ hd hk hs (by subst hv; exact ⟨rfl, hh, hn⟩)
theorem g_vretD (C : gX X D B cc y nL none rm l) {h0 : gHp} {n0 mc ms : Nat} (hQ : gQ X D B (gdt none h0 n0) mc ms) (hd : decode cc pc = .ok (.return_, 1)) (hk : k ≤ mc) (hs : sl ≤ ms) (hh : h = h0) (hn : n = n0) : G X D B h n k sl L pc [] :=
  g_vret C hQ hd hk hs ⟨rfl, hh, hn⟩
theorem G.loc (hL : L = L') (kk : G X D B h n k sl L' pc st) : G X D B h n k sl L pc st := by subst hL; exact kk
end GR2
def p2i (P : Prop) [Decidable P] : Int32 := if P then 1 else 0
theorem p2i_nb (P : Prop) [Decidable P] : nb (p2i P) = p2i P := by unfold p2i; by_cases h : P <;> simp [h] <;> rfl
theorem p2i_0 {P : Prop} [Decidable P] : p2i P = 0 ↔ ¬ P := by unfold p2i; by_cases h : P <;> simp [h]
theorem p2i_n0 {P : Prop} [Decidable P] : ¬ p2i P = 0 ↔ P := by unfold p2i; by_cases h : P <;> simp [h]
theorem p2i_t {P : Prop} [Decidable P] (h : P) : p2i P = 1 := by simp [p2i, h]
theorem p2i_f {P : Prop} [Decidable P] (h : ¬ P) : p2i P = 0 := by simp [p2i, h]
theorem p2i_1 {P : Prop} [Decidable P] : p2i P = 1 ↔ P := by unfold p2i; by_cases h : P <;> simp [h]
theorem p2i_n1 {P : Prop} [Decidable P] : ¬ p2i P = 1 ↔ ¬ P := by rw [p2i_1]
theorem b2i_0 {b : Bool} : b2i b = 0 ↔ ¬ b = true := by cases b <;> simp [b2i]
theorem b2i_n0 {b : Bool} : ¬ b2i b = 0 ↔ b = true := by cases b <;> simp [b2i]
theorem nb_b2i (x : Int32) : nb x = b2i (decide (¬ x = 0)) := by unfold nb b2i; by_cases h : x = 0 <;> simp [h]
theorem b2i_inj {a b : Bool} (h : b2i a = b2i b) : a = b := by cases a <;> cases b <;> first | rfl | (exact absurd h (by decide))
theorem lcmp_0 {x y : Int64} : lg_cmp x y = 0 ↔ x = y := by
  unfold lg_cmp
  by_cases h1 : x > y
  · rw [if_pos h1]; exact ⟨fun h => absurd h (by decide), fun h => by rw [h] at h1; exact absurd h1 (Int64.lt_irrefl)⟩
  · rw [if_neg h1]; by_cases h2 : x = y
    · simp [h2]
    · simp [h2]
theorem lcmp_n0 {x y : Int64} : ¬ lg_cmp x y = 0 ↔ ¬ x = y := by rw [lcmp_0]
theorem nb_0 {x : Int32} : nb x = 0 ↔ x = 0 := by unfold nb; by_cases h : x = 0 <;> simp [h]
theorem nb_n0 {x : Int32} : ¬ nb x = 0 ↔ ¬ x = 0 := by rw [nb_0]
theorem nb_p2i (x : Int32) : nb x = p2i (¬ x = 0) := by unfold nb p2i; by_cases h : x = 0 <;> simp [h]
theorem gix {α : Type} (f : Nat → α) {k : Nat} (h : k < 2 ^ 31) : f (nI k).toNatClampNeg = f k := by rw [nI_clamp h]
theorem nI_inc (i : Nat) : nI i + Int32.ofInt 1 = nI (i + 1) := (nI_succ i).symm
theorem nI_sub1 (i : Nat) : nI (i + 1) + Int32.ofInt (-1) = nI i := by rw [nI_succ, show (Int32.ofInt (-1)) = -1 from by decide, ← Int32.sub_eq_add_neg]; exact Int32.add_sub_cancel _ _
def mN (S : MS) (f : Nat) : Nat := (S.1 f).toNatClampNeg
def kN (K : KS) (f : Nat) : Nat := (K.1 f).toNatClampNeg
theorem va_rf_cat (r : Option Nat) : (va_rf r).category = 1 := by cases r <;> rfl
def jushr (x z : Int32) : Int32 := (x.toUInt32 >>> (z.toUInt32 &&& Int32.toUInt32 31)).toInt32
def jlshl (x : Int64) (z : Int32) : Int64 := x <<< (z.toInt64 &&& 63)
def jlshr (x : Int64) (z : Int32) : Int64 := x >>> (z.toInt64 &&& 63)
def jlushr (x : Int64) (z : Int32) : Int64 := (x.toUInt64 >>> (z.toInt64.toUInt64 &&& Int64.toUInt64 63)).toInt64
theorem G.nmS {X : gXT} {D : gD} {B : Nat × Nat} {K : KS} {S : MS} {h : gHp} {n k sl pc : Nat} {L : List (Option Value)} {st : List Value} (kk : ∀ S', S' = S → G X D B (wd K S' h) n k sl L pc st) : G X D B (wd K S h) n k sl L pc st := kk S rfl
theorem sw_out5 {x : Int32} (h0 : ¬ x = 0) (h1 : ¬ x = 1) (h2 : ¬ x = 2) (h3 : ¬ x = 3) (h4 : ¬ x = 4) : x.toInt < 0 ∨ 4 < x.toInt := by
  have g0 := lv_neT h0 (a := 0) (by decide)
  have g1 := lv_neT h1 (a := 1) (by decide)
  have g2 := lv_neT h2 (a := 2) (by decide)
  have g3 := lv_neT h3 (a := 3) (by decide)
  have g4 := lv_neT h4 (a := 4) (by decide)
  omega
theorem sw_out14 {x : Int32} (h0 : ¬ x = 0) (h1 : ¬ x = 1) (h2 : ¬ x = 2) (h3 : ¬ x = 3) (h4 : ¬ x = 4) (h5 : ¬ x = 5) (h6 : ¬ x = 6) (h7 : ¬ x = 7) (h8 : ¬ x = 8) (h9 : ¬ x = 9) (h10 : ¬ x = 10) (h11 : ¬ x = 11) (h12 : ¬ x = 12) (h13 : ¬ x = 13) : x.toInt < 0 ∨ 13 < x.toInt := by
  have g0 := lv_neT h0 (a := 0) (by decide)
  have g1 := lv_neT h1 (a := 1) (by decide)
  have g2 := lv_neT h2 (a := 2) (by decide)
  have g3 := lv_neT h3 (a := 3) (by decide)
  have g4 := lv_neT h4 (a := 4) (by decide)
  have g5 := lv_neT h5 (a := 5) (by decide)
  have g6 := lv_neT h6 (a := 6) (by decide)
  have g7 := lv_neT h7 (a := 7) (by decide)
  have g8 := lv_neT h8 (a := 8) (by decide)
  have g9 := lv_neT h9 (a := 9) (by decide)
  have g10 := lv_neT h10 (a := 10) (by decide)
  have g11 := lv_neT h11 (a := 11) (by decide)
  have g12 := lv_neT h12 (a := 12) (by decide)
  have g13 := lv_neT h13 (a := 13) (by decide)
  omega
theorem sw_out50 {x : Int32} (h0 : ¬ x = 0) (h1 : ¬ x = 1) (h2 : ¬ x = 2) (h3 : ¬ x = 3) (h4 : ¬ x = 4) (h5 : ¬ x = 5) (h6 : ¬ x = 6) (h7 : ¬ x = 7) (h8 : ¬ x = 8) (h9 : ¬ x = 9) (h10 : ¬ x = 10) (h11 : ¬ x = 11) (h12 : ¬ x = 12) (h13 : ¬ x = 13) (h14 : ¬ x = 14) (h15 : ¬ x = 15) (h16 : ¬ x = 16) (h17 : ¬ x = 17) (h18 : ¬ x = 18) (h19 : ¬ x = 19) (h20 : ¬ x = 20) (h21 : ¬ x = 21) (h22 : ¬ x = 22) (h23 : ¬ x = 23) (h24 : ¬ x = 24) (h25 : ¬ x = 25) (h26 : ¬ x = 26) (h27 : ¬ x = 27) (h28 : ¬ x = 28) (h29 : ¬ x = 29) (h30 : ¬ x = 30) (h31 : ¬ x = 31) (h32 : ¬ x = 32) (h33 : ¬ x = 33) (h34 : ¬ x = 34) (h35 : ¬ x = 35) (h36 : ¬ x = 36) (h37 : ¬ x = 37) (h38 : ¬ x = 38) (h39 : ¬ x = 39) (h40 : ¬ x = 40) (h41 : ¬ x = 41) (h42 : ¬ x = 42) (h43 : ¬ x = 43) (h44 : ¬ x = 44) (h45 : ¬ x = 45) (h46 : ¬ x = 46) (h47 : ¬ x = 47) (h48 : ¬ x = 48) (h49 : ¬ x = 49) : x.toInt < 0 ∨ 49 < x.toInt := by
  have g0 := lv_neT h0 (a := 0) (by decide)
  have g1 := lv_neT h1 (a := 1) (by decide)
  have g2 := lv_neT h2 (a := 2) (by decide)
  have g3 := lv_neT h3 (a := 3) (by decide)
  have g4 := lv_neT h4 (a := 4) (by decide)
  have g5 := lv_neT h5 (a := 5) (by decide)
  have g6 := lv_neT h6 (a := 6) (by decide)
  have g7 := lv_neT h7 (a := 7) (by decide)
  have g8 := lv_neT h8 (a := 8) (by decide)
  have g9 := lv_neT h9 (a := 9) (by decide)
  have g10 := lv_neT h10 (a := 10) (by decide)
  have g11 := lv_neT h11 (a := 11) (by decide)
  have g12 := lv_neT h12 (a := 12) (by decide)
  have g13 := lv_neT h13 (a := 13) (by decide)
  have g14 := lv_neT h14 (a := 14) (by decide)
  have g15 := lv_neT h15 (a := 15) (by decide)
  have g16 := lv_neT h16 (a := 16) (by decide)
  have g17 := lv_neT h17 (a := 17) (by decide)
  have g18 := lv_neT h18 (a := 18) (by decide)
  have g19 := lv_neT h19 (a := 19) (by decide)
  have g20 := lv_neT h20 (a := 20) (by decide)
  have g21 := lv_neT h21 (a := 21) (by decide)
  have g22 := lv_neT h22 (a := 22) (by decide)
  have g23 := lv_neT h23 (a := 23) (by decide)
  have g24 := lv_neT h24 (a := 24) (by decide)
  have g25 := lv_neT h25 (a := 25) (by decide)
  have g26 := lv_neT h26 (a := 26) (by decide)
  have g27 := lv_neT h27 (a := 27) (by decide)
  have g28 := lv_neT h28 (a := 28) (by decide)
  have g29 := lv_neT h29 (a := 29) (by decide)
  have g30 := lv_neT h30 (a := 30) (by decide)
  have g31 := lv_neT h31 (a := 31) (by decide)
  have g32 := lv_neT h32 (a := 32) (by decide)
  have g33 := lv_neT h33 (a := 33) (by decide)
  have g34 := lv_neT h34 (a := 34) (by decide)
  have g35 := lv_neT h35 (a := 35) (by decide)
  have g36 := lv_neT h36 (a := 36) (by decide)
  have g37 := lv_neT h37 (a := 37) (by decide)
  have g38 := lv_neT h38 (a := 38) (by decide)
  have g39 := lv_neT h39 (a := 39) (by decide)
  have g40 := lv_neT h40 (a := 40) (by decide)
  have g41 := lv_neT h41 (a := 41) (by decide)
  have g42 := lv_neT h42 (a := 42) (by decide)
  have g43 := lv_neT h43 (a := 43) (by decide)
  have g44 := lv_neT h44 (a := 44) (by decide)
  have g45 := lv_neT h45 (a := 45) (by decide)
  have g46 := lv_neT h46 (a := 46) (by decide)
  have g47 := lv_neT h47 (a := 47) (by decide)
  have g48 := lv_neT h48 (a := 48) (by decide)
  have g49 := lv_neT h49 (a := 49) (by decide)
  omega
theorem G.topc {X : gXT} {D : gD} {B : Nat × Nat} {h : gHp} {n k sl pc : Nat} {L : List (Option Value)} {st : List Value} {x x2 : Int32} (e : x = x2) (kk : G X D B h n k sl L pc (.int x2 :: st)) : G X D B h n k sl L pc (.int x :: st) := by subst e; exact kk
theorem G.topcl {X : gXT} {D : gD} {B : Nat × Nat} {h : gHp} {n k sl pc : Nat} {L : List (Option Value)} {st : List Value} {x x2 : Int64} (e : x = x2) (kk : G X D B h n k sl L pc (.long x2 :: st)) : G X D B h n k sl L pc (.long x :: st) := by subst e; exact kk
/-- a counter's field: its number, its bound -/
def mc (S : MS) (f cap : Nat) : Prop := S.1 f = nI (mN S f) ∧ mN S f ≤ cap
/-- what holds of the Model's state all through -/
def MOK (S : MS) : Prop := mc S 1 2000 ∧ mc S 12 12 ∧ mc S 13 40 ∧ mc S 14 600 ∧ mc S 16 160 ∧ mc S 29 40 ∧ mc S 30 40 ∧ mc S 31 12 ∧ mc S 48 20 ∧ mc S 49 40 ∧ mc S 50 40 ∧ mc S 51 200 ∧ mc S 77 80 ∧ mc S 78 60 ∧ mc S 79 40 ∧ mc S 82 20 ∧
  (∀ j, j < mN S 30 → vp_in (S.2.1 36 j) 40 ∧ ∃ q, 1 ≤ q ∧ q ≤ 12 ∧ S.2.1 38 j = nI q) ∧ (∀ j, j < mN S 79 → vp_in (S.2.1 69 j) 40) ∧ (∀ j, j < mN S 49 → ∃ q, q < mN S 48 ∧ S.2.1 48 j = nI q) ∧ (∀ j, j < mN S 48 → ∃ q, q ≤ 160 ∧ S.2.1 46 j = nI q) ∧ (∀ j, j < mN S 50 → ¬ S.2.1 56 j = 0 → ∃ q, q < mN S 48 ∧ S.2.1 51 j = nI q) ∧ ((∀ j, j < mN S 31 → ∃ q, q < 12 ∧ S.2.1 42 j = nI q) ∧ ∀ i j, i < mN S 31 → j < mN S 31 → S.2.1 42 i = S.2.1 42 j → i = j)
theorem MOK.c1 {S : MS} (h : MOK S) : mc S 1 2000 := h.1
theorem MOK.c12 {S : MS} (h : MOK S) : mc S 12 12 := h.2.1
theorem MOK.c13 {S : MS} (h : MOK S) : mc S 13 40 := h.2.2.1
theorem MOK.c14 {S : MS} (h : MOK S) : mc S 14 600 := h.2.2.2.1
theorem MOK.c16 {S : MS} (h : MOK S) : mc S 16 160 := h.2.2.2.2.1
theorem MOK.c29 {S : MS} (h : MOK S) : mc S 29 40 := h.2.2.2.2.2.1
theorem MOK.c30 {S : MS} (h : MOK S) : mc S 30 40 := h.2.2.2.2.2.2.1
theorem MOK.c31 {S : MS} (h : MOK S) : mc S 31 12 := h.2.2.2.2.2.2.2.1
theorem MOK.c48 {S : MS} (h : MOK S) : mc S 48 20 := h.2.2.2.2.2.2.2.2.1
theorem MOK.c49 {S : MS} (h : MOK S) : mc S 49 40 := h.2.2.2.2.2.2.2.2.2.1
theorem MOK.c50 {S : MS} (h : MOK S) : mc S 50 40 := h.2.2.2.2.2.2.2.2.2.2.1
theorem MOK.c51 {S : MS} (h : MOK S) : mc S 51 200 := h.2.2.2.2.2.2.2.2.2.2.2.1
theorem MOK.c77 {S : MS} (h : MOK S) : mc S 77 80 := h.2.2.2.2.2.2.2.2.2.2.2.2.1
theorem MOK.c78 {S : MS} (h : MOK S) : mc S 78 60 := h.2.2.2.2.2.2.2.2.2.2.2.2.2.1
theorem MOK.c79 {S : MS} (h : MOK S) : mc S 79 40 := h.2.2.2.2.2.2.2.2.2.2.2.2.2.2.1
theorem MOK.c82 {S : MS} (h : MOK S) : mc S 82 20 := h.2.2.2.2.2.2.2.2.2.2.2.2.2.2.2.1
theorem MOK.part {S : MS} (h : MOK S) : ∀ j, j < mN S 30 → vp_in (S.2.1 36 j) 40 ∧ ∃ q, 1 ≤ q ∧ q ≤ 12 ∧ S.2.1 38 j = nI q := h.2.2.2.2.2.2.2.2.2.2.2.2.2.2.2.2.1
theorem MOK.lent {S : MS} (h : MOK S) : ∀ j, j < mN S 79 → vp_in (S.2.1 69 j) 40 := h.2.2.2.2.2.2.2.2.2.2.2.2.2.2.2.2.2.1
theorem MOK.death {S : MS} (h : MOK S) : ∀ j, j < mN S 49 → ∃ q, q < mN S 48 ∧ S.2.1 48 j = nI q := h.2.2.2.2.2.2.2.2.2.2.2.2.2.2.2.2.2.2.1
theorem MOK.rule {S : MS} (h : MOK S) : ∀ j, j < mN S 48 → ∃ q, q ≤ 160 ∧ S.2.1 46 j = nI q := h.2.2.2.2.2.2.2.2.2.2.2.2.2.2.2.2.2.2.2.1
theorem MOK.seal {S : MS} (h : MOK S) : ∀ j, j < mN S 50 → ¬ S.2.1 56 j = 0 → ∃ q, q < mN S 48 ∧ S.2.1 51 j = nI q := h.2.2.2.2.2.2.2.2.2.2.2.2.2.2.2.2.2.2.2.2.1
theorem MOK.bench {S : MS} (h : MOK S) : (∀ j, j < mN S 31 → ∃ q, q < 12 ∧ S.2.1 42 j = nI q) ∧ ∀ i j, i < mN S 31 → j < mN S 31 → S.2.1 42 i = S.2.1 42 j → i = j := h.2.2.2.2.2.2.2.2.2.2.2.2.2.2.2.2.2.2.2.2.2
/-- a field that no counter is may change -/
theorem MOK.setI {S : MS} (h : MOK S) {f : Nat} (x : Int32) (hf : ([1, 12, 13, 14, 16, 29, 30, 31, 48, 49, 50, 51, 77, 78, 79, 82] : List Nat).contains f = false) : MOK (sI S f x) := by
  have key : ∀ g, g ∈ ([1, 12, 13, 14, 16, 29, 30, 31, 48, 49, 50, 51, 77, 78, 79, 82] : List Nat) → (sI S f x).1 g = S.1 g := by
    intro g hg
    refine sI_ne S x (fun e => ?_)
    subst e
    simp at hf hg
    omega
  obtain ⟨h1, h12, h13, h14, h16, h29, h30, h31, h48, h49, h50, h51, h77, h78, h79, h82, p1, p2, p3, p4, p5, p6⟩ := h
  simp only [MOK, mc, mN] at *
  rw [key 1 (by decide), key 12 (by decide), key 13 (by decide), key 14 (by decide), key 16 (by decide), key 29 (by decide), key 30 (by decide), key 31 (by decide), key 48 (by decide), key 49 (by decide), key 50 (by decide), key 51 (by decide), key 77 (by decide), key 78 (by decide), key 79 (by decide), key 82 (by decide)]
  exact ⟨h1, h12, h13, h14, h16, h29, h30, h31, h48, h49, h50, h51, h77, h78, h79, h82, p1, p2, p3, p4, p5, p6⟩
theorem mN_sI_eq (S : MS) (f j : Nat) (h : j < 2 ^ 31) : mN (sI S f (nI j)) f = j := by unfold mN; rw [sI_same, nI_clamp h]
theorem mN_sI_ne (S : MS) {f g : Nat} (x : Int32) (h : g ≠ f) : mN (sI S f x) g = mN S g := by simp [mN, sI, upd, h]
theorem MOK.n1 {S : MS} (h : MOK S) {j : Nat} (hj : j ≤ 2000) : MOK (sI S 1 (nI j)) := by
  have key : ∀ g, g ≠ 1 → (sI S 1 (nI j)).1 g = S.1 g := fun g hg => sI_ne S _ hg
  have kn : ∀ g, g ≠ 1 → mN (sI S 1 (nI j)) g = mN S g := fun g hg => mN_sI_ne S _ hg
  obtain ⟨h1, h12, h13, h14, h16, h29, h30, h31, h48, h49, h50, h51, h77, h78, h79, h82, p1, p2, p3, p4, p5, p6⟩ := h
  have hn : mc (sI S 1 (nI j)) 1 2000 := ⟨by rw [mN_sI_eq _ _ _ (by omega), sI_same], by rw [mN_sI_eq _ _ _ (by omega)]; exact hj⟩
  unfold MOK
  unfold mc at hn ⊢
  unfold mc at h12 h13 h14 h16 h29 h30 h31 h48 h49 h50 h51 h77 h78 h79 h82
  rw [kn 12 (by decide), kn 13 (by decide), kn 14 (by decide), kn 16 (by decide), kn 29 (by decide), kn 30 (by decide), kn 31 (by decide), kn 48 (by decide), kn 49 (by decide), kn 50 (by decide), kn 51 (by decide), kn 77 (by decide), kn 78 (by decide), kn 79 (by decide), kn 82 (by decide), key 12 (by decide), key 13 (by decide), key 14 (by decide), key 16 (by decide), key 29 (by decide), key 30 (by decide), key 31 (by decide), key 48 (by decide), key 49 (by decide), key 50 (by decide), key 51 (by decide), key 77 (by decide), key 78 (by decide), key 79 (by decide), key 82 (by decide)]
  exact ⟨hn, h12, h13, h14, h16, h29, h30, h31, h48, h49, h50, h51, h77, h78, h79, h82, p1, p2, p3, p4, p5, p6⟩
theorem MOK.n12 {S : MS} (h : MOK S) {j : Nat} (hj : j ≤ 12) : MOK (sI S 12 (nI j)) := by
  have key : ∀ g, g ≠ 12 → (sI S 12 (nI j)).1 g = S.1 g := fun g hg => sI_ne S _ hg
  have kn : ∀ g, g ≠ 12 → mN (sI S 12 (nI j)) g = mN S g := fun g hg => mN_sI_ne S _ hg
  obtain ⟨h1, h12, h13, h14, h16, h29, h30, h31, h48, h49, h50, h51, h77, h78, h79, h82, p1, p2, p3, p4, p5, p6⟩ := h
  have hn : mc (sI S 12 (nI j)) 12 12 := ⟨by rw [mN_sI_eq _ _ _ (by omega), sI_same], by rw [mN_sI_eq _ _ _ (by omega)]; exact hj⟩
  unfold MOK
  unfold mc at hn ⊢
  unfold mc at h1 h13 h14 h16 h29 h30 h31 h48 h49 h50 h51 h77 h78 h79 h82
  rw [kn 1 (by decide), kn 13 (by decide), kn 14 (by decide), kn 16 (by decide), kn 29 (by decide), kn 30 (by decide), kn 31 (by decide), kn 48 (by decide), kn 49 (by decide), kn 50 (by decide), kn 51 (by decide), kn 77 (by decide), kn 78 (by decide), kn 79 (by decide), kn 82 (by decide), key 1 (by decide), key 13 (by decide), key 14 (by decide), key 16 (by decide), key 29 (by decide), key 30 (by decide), key 31 (by decide), key 48 (by decide), key 49 (by decide), key 50 (by decide), key 51 (by decide), key 77 (by decide), key 78 (by decide), key 79 (by decide), key 82 (by decide)]
  exact ⟨h1, hn, h13, h14, h16, h29, h30, h31, h48, h49, h50, h51, h77, h78, h79, h82, p1, p2, p3, p4, p5, p6⟩
theorem MOK.n13 {S : MS} (h : MOK S) {j : Nat} (hj : j ≤ 40) : MOK (sI S 13 (nI j)) := by
  have key : ∀ g, g ≠ 13 → (sI S 13 (nI j)).1 g = S.1 g := fun g hg => sI_ne S _ hg
  have kn : ∀ g, g ≠ 13 → mN (sI S 13 (nI j)) g = mN S g := fun g hg => mN_sI_ne S _ hg
  obtain ⟨h1, h12, h13, h14, h16, h29, h30, h31, h48, h49, h50, h51, h77, h78, h79, h82, p1, p2, p3, p4, p5, p6⟩ := h
  have hn : mc (sI S 13 (nI j)) 13 40 := ⟨by rw [mN_sI_eq _ _ _ (by omega), sI_same], by rw [mN_sI_eq _ _ _ (by omega)]; exact hj⟩
  unfold MOK
  unfold mc at hn ⊢
  unfold mc at h1 h12 h14 h16 h29 h30 h31 h48 h49 h50 h51 h77 h78 h79 h82
  rw [kn 1 (by decide), kn 12 (by decide), kn 14 (by decide), kn 16 (by decide), kn 29 (by decide), kn 30 (by decide), kn 31 (by decide), kn 48 (by decide), kn 49 (by decide), kn 50 (by decide), kn 51 (by decide), kn 77 (by decide), kn 78 (by decide), kn 79 (by decide), kn 82 (by decide), key 1 (by decide), key 12 (by decide), key 14 (by decide), key 16 (by decide), key 29 (by decide), key 30 (by decide), key 31 (by decide), key 48 (by decide), key 49 (by decide), key 50 (by decide), key 51 (by decide), key 77 (by decide), key 78 (by decide), key 79 (by decide), key 82 (by decide)]
  exact ⟨h1, h12, hn, h14, h16, h29, h30, h31, h48, h49, h50, h51, h77, h78, h79, h82, p1, p2, p3, p4, p5, p6⟩
theorem MOK.n14 {S : MS} (h : MOK S) {j : Nat} (hj : j ≤ 600) : MOK (sI S 14 (nI j)) := by
  have key : ∀ g, g ≠ 14 → (sI S 14 (nI j)).1 g = S.1 g := fun g hg => sI_ne S _ hg
  have kn : ∀ g, g ≠ 14 → mN (sI S 14 (nI j)) g = mN S g := fun g hg => mN_sI_ne S _ hg
  obtain ⟨h1, h12, h13, h14, h16, h29, h30, h31, h48, h49, h50, h51, h77, h78, h79, h82, p1, p2, p3, p4, p5, p6⟩ := h
  have hn : mc (sI S 14 (nI j)) 14 600 := ⟨by rw [mN_sI_eq _ _ _ (by omega), sI_same], by rw [mN_sI_eq _ _ _ (by omega)]; exact hj⟩
  unfold MOK
  unfold mc at hn ⊢
  unfold mc at h1 h12 h13 h16 h29 h30 h31 h48 h49 h50 h51 h77 h78 h79 h82
  rw [kn 1 (by decide), kn 12 (by decide), kn 13 (by decide), kn 16 (by decide), kn 29 (by decide), kn 30 (by decide), kn 31 (by decide), kn 48 (by decide), kn 49 (by decide), kn 50 (by decide), kn 51 (by decide), kn 77 (by decide), kn 78 (by decide), kn 79 (by decide), kn 82 (by decide), key 1 (by decide), key 12 (by decide), key 13 (by decide), key 16 (by decide), key 29 (by decide), key 30 (by decide), key 31 (by decide), key 48 (by decide), key 49 (by decide), key 50 (by decide), key 51 (by decide), key 77 (by decide), key 78 (by decide), key 79 (by decide), key 82 (by decide)]
  exact ⟨h1, h12, h13, hn, h16, h29, h30, h31, h48, h49, h50, h51, h77, h78, h79, h82, p1, p2, p3, p4, p5, p6⟩
theorem MOK.n16 {S : MS} (h : MOK S) {j : Nat} (hj : j ≤ 160) : MOK (sI S 16 (nI j)) := by
  have key : ∀ g, g ≠ 16 → (sI S 16 (nI j)).1 g = S.1 g := fun g hg => sI_ne S _ hg
  have kn : ∀ g, g ≠ 16 → mN (sI S 16 (nI j)) g = mN S g := fun g hg => mN_sI_ne S _ hg
  obtain ⟨h1, h12, h13, h14, h16, h29, h30, h31, h48, h49, h50, h51, h77, h78, h79, h82, p1, p2, p3, p4, p5, p6⟩ := h
  have hn : mc (sI S 16 (nI j)) 16 160 := ⟨by rw [mN_sI_eq _ _ _ (by omega), sI_same], by rw [mN_sI_eq _ _ _ (by omega)]; exact hj⟩
  unfold MOK
  unfold mc at hn ⊢
  unfold mc at h1 h12 h13 h14 h29 h30 h31 h48 h49 h50 h51 h77 h78 h79 h82
  rw [kn 1 (by decide), kn 12 (by decide), kn 13 (by decide), kn 14 (by decide), kn 29 (by decide), kn 30 (by decide), kn 31 (by decide), kn 48 (by decide), kn 49 (by decide), kn 50 (by decide), kn 51 (by decide), kn 77 (by decide), kn 78 (by decide), kn 79 (by decide), kn 82 (by decide), key 1 (by decide), key 12 (by decide), key 13 (by decide), key 14 (by decide), key 29 (by decide), key 30 (by decide), key 31 (by decide), key 48 (by decide), key 49 (by decide), key 50 (by decide), key 51 (by decide), key 77 (by decide), key 78 (by decide), key 79 (by decide), key 82 (by decide)]
  exact ⟨h1, h12, h13, h14, hn, h29, h30, h31, h48, h49, h50, h51, h77, h78, h79, h82, p1, p2, p3, p4, p5, p6⟩
theorem MOK.n29 {S : MS} (h : MOK S) {j : Nat} (hj : j ≤ 40) : MOK (sI S 29 (nI j)) := by
  have key : ∀ g, g ≠ 29 → (sI S 29 (nI j)).1 g = S.1 g := fun g hg => sI_ne S _ hg
  have kn : ∀ g, g ≠ 29 → mN (sI S 29 (nI j)) g = mN S g := fun g hg => mN_sI_ne S _ hg
  obtain ⟨h1, h12, h13, h14, h16, h29, h30, h31, h48, h49, h50, h51, h77, h78, h79, h82, p1, p2, p3, p4, p5, p6⟩ := h
  have hn : mc (sI S 29 (nI j)) 29 40 := ⟨by rw [mN_sI_eq _ _ _ (by omega), sI_same], by rw [mN_sI_eq _ _ _ (by omega)]; exact hj⟩
  unfold MOK
  unfold mc at hn ⊢
  unfold mc at h1 h12 h13 h14 h16 h30 h31 h48 h49 h50 h51 h77 h78 h79 h82
  rw [kn 1 (by decide), kn 12 (by decide), kn 13 (by decide), kn 14 (by decide), kn 16 (by decide), kn 30 (by decide), kn 31 (by decide), kn 48 (by decide), kn 49 (by decide), kn 50 (by decide), kn 51 (by decide), kn 77 (by decide), kn 78 (by decide), kn 79 (by decide), kn 82 (by decide), key 1 (by decide), key 12 (by decide), key 13 (by decide), key 14 (by decide), key 16 (by decide), key 30 (by decide), key 31 (by decide), key 48 (by decide), key 49 (by decide), key 50 (by decide), key 51 (by decide), key 77 (by decide), key 78 (by decide), key 79 (by decide), key 82 (by decide)]
  exact ⟨h1, h12, h13, h14, h16, hn, h30, h31, h48, h49, h50, h51, h77, h78, h79, h82, p1, p2, p3, p4, p5, p6⟩
theorem MOK.n51 {S : MS} (h : MOK S) {j : Nat} (hj : j ≤ 200) : MOK (sI S 51 (nI j)) := by
  have key : ∀ g, g ≠ 51 → (sI S 51 (nI j)).1 g = S.1 g := fun g hg => sI_ne S _ hg
  have kn : ∀ g, g ≠ 51 → mN (sI S 51 (nI j)) g = mN S g := fun g hg => mN_sI_ne S _ hg
  obtain ⟨h1, h12, h13, h14, h16, h29, h30, h31, h48, h49, h50, h51, h77, h78, h79, h82, p1, p2, p3, p4, p5, p6⟩ := h
  have hn : mc (sI S 51 (nI j)) 51 200 := ⟨by rw [mN_sI_eq _ _ _ (by omega), sI_same], by rw [mN_sI_eq _ _ _ (by omega)]; exact hj⟩
  unfold MOK
  unfold mc at hn ⊢
  unfold mc at h1 h12 h13 h14 h16 h29 h30 h31 h48 h49 h50 h77 h78 h79 h82
  rw [kn 1 (by decide), kn 12 (by decide), kn 13 (by decide), kn 14 (by decide), kn 16 (by decide), kn 29 (by decide), kn 30 (by decide), kn 31 (by decide), kn 48 (by decide), kn 49 (by decide), kn 50 (by decide), kn 77 (by decide), kn 78 (by decide), kn 79 (by decide), kn 82 (by decide), key 1 (by decide), key 12 (by decide), key 13 (by decide), key 14 (by decide), key 16 (by decide), key 29 (by decide), key 30 (by decide), key 31 (by decide), key 48 (by decide), key 49 (by decide), key 50 (by decide), key 77 (by decide), key 78 (by decide), key 79 (by decide), key 82 (by decide)]
  exact ⟨h1, h12, h13, h14, h16, h29, h30, h31, h48, h49, h50, hn, h77, h78, h79, h82, p1, p2, p3, p4, p5, p6⟩
theorem MOK.n77 {S : MS} (h : MOK S) {j : Nat} (hj : j ≤ 80) : MOK (sI S 77 (nI j)) := by
  have key : ∀ g, g ≠ 77 → (sI S 77 (nI j)).1 g = S.1 g := fun g hg => sI_ne S _ hg
  have kn : ∀ g, g ≠ 77 → mN (sI S 77 (nI j)) g = mN S g := fun g hg => mN_sI_ne S _ hg
  obtain ⟨h1, h12, h13, h14, h16, h29, h30, h31, h48, h49, h50, h51, h77, h78, h79, h82, p1, p2, p3, p4, p5, p6⟩ := h
  have hn : mc (sI S 77 (nI j)) 77 80 := ⟨by rw [mN_sI_eq _ _ _ (by omega), sI_same], by rw [mN_sI_eq _ _ _ (by omega)]; exact hj⟩
  unfold MOK
  unfold mc at hn ⊢
  unfold mc at h1 h12 h13 h14 h16 h29 h30 h31 h48 h49 h50 h51 h78 h79 h82
  rw [kn 1 (by decide), kn 12 (by decide), kn 13 (by decide), kn 14 (by decide), kn 16 (by decide), kn 29 (by decide), kn 30 (by decide), kn 31 (by decide), kn 48 (by decide), kn 49 (by decide), kn 50 (by decide), kn 51 (by decide), kn 78 (by decide), kn 79 (by decide), kn 82 (by decide), key 1 (by decide), key 12 (by decide), key 13 (by decide), key 14 (by decide), key 16 (by decide), key 29 (by decide), key 30 (by decide), key 31 (by decide), key 48 (by decide), key 49 (by decide), key 50 (by decide), key 51 (by decide), key 78 (by decide), key 79 (by decide), key 82 (by decide)]
  exact ⟨h1, h12, h13, h14, h16, h29, h30, h31, h48, h49, h50, h51, hn, h78, h79, h82, p1, p2, p3, p4, p5, p6⟩
theorem MOK.n78 {S : MS} (h : MOK S) {j : Nat} (hj : j ≤ 60) : MOK (sI S 78 (nI j)) := by
  have key : ∀ g, g ≠ 78 → (sI S 78 (nI j)).1 g = S.1 g := fun g hg => sI_ne S _ hg
  have kn : ∀ g, g ≠ 78 → mN (sI S 78 (nI j)) g = mN S g := fun g hg => mN_sI_ne S _ hg
  obtain ⟨h1, h12, h13, h14, h16, h29, h30, h31, h48, h49, h50, h51, h77, h78, h79, h82, p1, p2, p3, p4, p5, p6⟩ := h
  have hn : mc (sI S 78 (nI j)) 78 60 := ⟨by rw [mN_sI_eq _ _ _ (by omega), sI_same], by rw [mN_sI_eq _ _ _ (by omega)]; exact hj⟩
  unfold MOK
  unfold mc at hn ⊢
  unfold mc at h1 h12 h13 h14 h16 h29 h30 h31 h48 h49 h50 h51 h77 h79 h82
  rw [kn 1 (by decide), kn 12 (by decide), kn 13 (by decide), kn 14 (by decide), kn 16 (by decide), kn 29 (by decide), kn 30 (by decide), kn 31 (by decide), kn 48 (by decide), kn 49 (by decide), kn 50 (by decide), kn 51 (by decide), kn 77 (by decide), kn 79 (by decide), kn 82 (by decide), key 1 (by decide), key 12 (by decide), key 13 (by decide), key 14 (by decide), key 16 (by decide), key 29 (by decide), key 30 (by decide), key 31 (by decide), key 48 (by decide), key 49 (by decide), key 50 (by decide), key 51 (by decide), key 77 (by decide), key 79 (by decide), key 82 (by decide)]
  exact ⟨h1, h12, h13, h14, h16, h29, h30, h31, h48, h49, h50, h51, h77, hn, h79, h82, p1, p2, p3, p4, p5, p6⟩
theorem MOK.n82 {S : MS} (h : MOK S) {j : Nat} (hj : j ≤ 20) : MOK (sI S 82 (nI j)) := by
  have key : ∀ g, g ≠ 82 → (sI S 82 (nI j)).1 g = S.1 g := fun g hg => sI_ne S _ hg
  have kn : ∀ g, g ≠ 82 → mN (sI S 82 (nI j)) g = mN S g := fun g hg => mN_sI_ne S _ hg
  obtain ⟨h1, h12, h13, h14, h16, h29, h30, h31, h48, h49, h50, h51, h77, h78, h79, h82, p1, p2, p3, p4, p5, p6⟩ := h
  have hn : mc (sI S 82 (nI j)) 82 20 := ⟨by rw [mN_sI_eq _ _ _ (by omega), sI_same], by rw [mN_sI_eq _ _ _ (by omega)]; exact hj⟩
  unfold MOK
  unfold mc at hn ⊢
  unfold mc at h1 h12 h13 h14 h16 h29 h30 h31 h48 h49 h50 h51 h77 h78 h79
  rw [kn 1 (by decide), kn 12 (by decide), kn 13 (by decide), kn 14 (by decide), kn 16 (by decide), kn 29 (by decide), kn 30 (by decide), kn 31 (by decide), kn 48 (by decide), kn 49 (by decide), kn 50 (by decide), kn 51 (by decide), kn 77 (by decide), kn 78 (by decide), kn 79 (by decide), key 1 (by decide), key 12 (by decide), key 13 (by decide), key 14 (by decide), key 16 (by decide), key 29 (by decide), key 30 (by decide), key 31 (by decide), key 48 (by decide), key 49 (by decide), key 50 (by decide), key 51 (by decide), key 77 (by decide), key 78 (by decide), key 79 (by decide)]
  exact ⟨h1, h12, h13, h14, h16, h29, h30, h31, h48, h49, h50, h51, h77, h78, h79, hn, p1, p2, p3, p4, p5, p6⟩
theorem sI_2 (S : MS) (f : Nat) (x : Int32) : (sI S f x).2 = S.2 := rfl
theorem sE_ne (S : MS) {a b : Nat} (i : Nat) (x : Int32) (h : b ≠ a) : (sE S a i x).2.1 b = S.2.1 b := by simp [sE, h]
theorem sE_same (S : MS) (a i : Nat) (x : Int32) : (sE S a i x).2.1 a = upd (S.2.1 a) i x := by simp [sE]
/-- an array that MOK says nothing of may change -/
theorem MOK.setE {S : MS} (h : MOK S) {a : Nat} (i : Nat) (x : Int32) (hf : ([36, 38, 69, 48, 46, 56, 51, 42] : List Nat).contains a = false) : MOK (sE S a i x) := by
  have key : ∀ b, b ∈ ([36, 38, 69, 48, 46, 56, 51, 42] : List Nat) → (sE S a i x).2.1 b = S.2.1 b := by
    intro b hb
    refine sE_ne S i x (fun e => ?_)
    subst e
    simp at hf hb
    omega
  obtain ⟨h1, h12, h13, h14, h16, h29, h30, h31, h48, h49, h50, h51, h77, h78, h79, h82, p1, p2, p3, p4, p5, p6⟩ := h
  refine ⟨h1, h12, h13, h14, h16, h29, h30, h31, h48, h49, h50, h51, h77, h78, h79, h82, ?_, ?_, ?_, ?_, ?_, ?_⟩
  · rw [key 36 (by decide), key 38 (by decide)]; exact p1
  · rw [key 69 (by decide)]; exact p2
  · rw [key 48 (by decide)]; exact p3
  · rw [key 46 (by decide)]; exact p4
  · rw [key 56 (by decide), key 51 (by decide)]; exact p5
  · rw [key 42 (by decide)]; exact p6
