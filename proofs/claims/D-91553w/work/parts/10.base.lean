/-! BASE: the calculus G over the kit's W: relative addresses, an abstract heap, locals as a list -/
set_option maxRecDepth 100000
def gcl : List vw_C := [(RX1, TX1, 38), (RX3, TX3, 85), (RX2, TX2, 0), (RX6, TX6, 5), (RX5, TX5, 5), (RX7, TX7, 6), (RX9, TX9, 5), (RX10, TX10, 5), (RX11, TX11, 8), (RX13, TX13, 2), (RX14, TX14, 3), (RX15, TX15, 5), (RX16, TX16, 7), (RX17, TX17, 4), (RX18, TX18, 6), (RX19, TX19, 5), (RX20, TX20, 3), (RX21, TX21, 5)]
abbrev gD : Type := va_G × (Nat → ClassId)
def gtyL : List FieldType := [.int, .byte, .boolean, .long, .object RX4, .object RX10, .object RX11, .object RX12, .object RX17, .object RX16, .object RX19, .object RX21]
def gtys (D : gD) : List (ClassId × FieldType) := [(D.2 0, .int), (D.2 1, .byte), (D.2 2, .boolean), (D.2 3, .long), (D.2 4, .object RX4), (D.2 5, .object RX10), (D.2 6, .object RX11), (D.2 7, .object RX12), (D.2 8, .object RX17), (D.2 9, .object RX16), (D.2 10, .object RX19), (D.2 11, .object RX21)]
/-- a class of the list, with what the tables say of its fields -/
def gCls (ci : Nat) (C : String) (T : u_T) (N : Nat) (ty : Nat → FieldType) : Prop := gcl[ci]? = some (C, T, N) ∧ (∀ w ∈ u_ws C T N, w ∈ lw_all) ∧ (∀ k, k < N → parseFieldDescriptor (T k).2.2.1 = some (ty k)) ∧ (∀ a, a < N → ∀ b, b < N → a ≠ b → (T a).2.1 ≠ (T b).2.1)
theorem gc_0 : gCls 0 RX1 TX1 38 tyX1 := ⟨rfl, in_X1, tyX1_ok, nmX1⟩
theorem gc_1 : gCls 1 RX3 TX3 85 tyX3 := ⟨rfl, in_X3, tyX3_ok, nmX3⟩
theorem gc_3 : gCls 3 RX6 TX6 5 tyX6 := ⟨rfl, in_X6, tyX6_ok, nmX6⟩
theorem gc_4 : gCls 4 RX5 TX5 5 tyX5 := ⟨rfl, in_X5, tyX5_ok, nmX5⟩
theorem gc_5 : gCls 5 RX7 TX7 6 tyX7 := ⟨rfl, in_X7, tyX7_ok, nmX7⟩
theorem gc_6 : gCls 6 RX9 TX9 5 tyX9 := ⟨rfl, in_X9, tyX9_ok, nmX9⟩
theorem gc_7 : gCls 7 RX10 TX10 5 tyX10 := ⟨rfl, in_X10, tyX10_ok, nmX10⟩
theorem gc_8 : gCls 8 RX11 TX11 8 tyX11 := ⟨rfl, in_X11, tyX11_ok, nmX11⟩
theorem gc_9 : gCls 9 RX13 TX13 2 tyX13 := ⟨rfl, in_X13, tyX13_ok, nmX13⟩
theorem gc_10 : gCls 10 RX14 TX14 3 tyX14 := ⟨rfl, in_X14, tyX14_ok, nmX14⟩
theorem gc_11 : gCls 11 RX15 TX15 5 tyX15 := ⟨rfl, in_X15, tyX15_ok, nmX15⟩
theorem gc_12 : gCls 12 RX16 TX16 7 tyX16 := ⟨rfl, in_X16, tyX16_ok, nmX16⟩
theorem gc_13 : gCls 13 RX17 TX17 4 tyX17 := ⟨rfl, in_X17, tyX17_ok, nmX17⟩
theorem gc_14 : gCls 14 RX18 TX18 6 tyX18 := ⟨rfl, in_X18, tyX18_ok, nmX18⟩
theorem gc_15 : gCls 15 RX19 TX19 5 tyX19 := ⟨rfl, in_X19, tyX19_ok, nmX19⟩
theorem gc_16 : gCls 16 RX20 TX20 3 tyX20 := ⟨rfl, in_X20, tyX20_ok, nmX20⟩
theorem gc_17 : gCls 17 RX21 TX21 5 tyX21 := ⟨rfl, in_X21, tyX21_ok, nmX21⟩
/-- an address: 0 the script, k + 1 the k-th cell made -/
def gad (B : Nat × Nat) (k : Nat) : Nat := match k with
  | 0 => B.1
  | j + 1 => B.2 + j
def gv (B : Nat × Nat) (v : Value) : Value := match v with
  | .ref k => .ref (gad B k)
  | w => w
abbrev gC : Type := (Nat × vp_A) ⊕ (Nat × List Value)
abbrev gHp : Type := Nat → Option gC
abbrev gai (f : Nat → Int32) : (Nat → Int32) ⊕ (Nat → Int64) ⊕ (Nat → UInt32) ⊕ (Nat → UInt64) ⊕ (Nat → Option Nat) := .inl f
abbrev gal (f : Nat → Int64) : (Nat → Int32) ⊕ (Nat → Int64) ⊕ (Nat → UInt32) ⊕ (Nat → UInt64) ⊕ (Nat → Option Nat) := .inr (.inl f)
abbrev gaq (f : Nat → Option Nat) : (Nat → Int32) ⊕ (Nat → Int64) ⊕ (Nat → UInt32) ⊕ (Nat → UInt64) ⊕ (Nat → Option Nat) := .inr (.inr (.inr (.inr f)))
def gac (B : Nat × Nat) (a : (Nat → Int32) ⊕ (Nat → Int64) ⊕ (Nat → UInt32) ⊕ (Nat → UInt64) ⊕ (Nat → Option Nat)) : (Nat → Int32) ⊕ (Nat → Int64) ⊕ (Nat → UInt32) ⊕ (Nat → UInt64) ⊕ (Nat → Option Nat) := match a with
  | .inr (.inr (.inr (.inr f))) => .inr (.inr (.inr (.inr (fun j => (f j).map (gad B)))))
  | x => x
def gce (D : gD) (B : Nat × Nat) (c : gC) : va_E := match c with
  | .inl a => .inl (D.2 a.1, a.2.1, gac B a.2.2)
  | .inr o => .inr (o.1, o.2.map (gv B))
/-- the heap holds the abstract heap's cells; n cells are made -/
def gHw (D : gD) (B : Nat × Nat) (h : gHp) (n : Nat) (H : Heap) : Prop := H.size = B.2 + n ∧ B.1 < B.2 ∧ ∀ k e, h k = some e → 1 ≤ k ∧ k ≤ n ∧ va_at D.1 gcl (gad B k, gce D B e) H
def gA (B : Nat × Nat) : Nat → Prop := fun q => B.2 ≤ q
/-- the tables' words that are carried -/
def gwm (w : Cond) : Bool := match w with
  | .fieldLinkNest _ _ _ _ _ _ => true
  | .methodLinkNest _ _ _ _ => true
  | .declares _ => true
  | .castable _ _ => true
  | _ => false
def gext : List Cond := lw_tbl.filter gwm
theorem gx {w : Cond} (h : w ∈ lw_tbl) (g : gwm w = true) : w ∈ gext := List.mem_filter.mpr ⟨h, g⟩
def gover : List String := [RX4, RX10, RX11, RX12, RX17, RX16, RX19, RX21]
def gnc : List (String × String) := [(RX6, RX5), (RX7, RX5), (RX10, RX9), (RX11, RX9)]
def gK (D : gD) (U : State) : Prop := va_K D.1 gcl (gtys D) U ∧ (∀ w ∈ gext, va_Nw w U) ∧ (∀ C ∈ gover, va_AO C U) ∧ (∀ q ∈ gnc, va_Nc q.1 q.2 U)
theorem gK.moved {D : gD} {s U : State} (hW : s.WarmedH U.vm) (h : gK D s) : gK D U := by
  obtain ⟨h1, h2, h3, h4⟩ := h
  refine ⟨h1.moved hW.alike, fun w hw => ?_, fun C hC => (h3 C hC).moved hW.alike, fun q hq => (h4 q hq).moved hW.alike⟩
  have h5 := h2 w hw
  have h6 := (List.mem_filter.mp hw).2
  cases w with
  | fieldLinkNest => exact va_Nw.warmF hW h5
  | methodLinkNest => exact va_Nw.warmM hW h5
  | declares => exact va_Nw.warmD hW h5
  | castable => exact va_Nw.warmC hW h5
  | _ => cases h6
theorem gK.blind {D : gD} {U : State} {g : JFrame} {mk : MethodId} {a : Array Value} (h : gK D U) : gK D (U.calling g mk a) := by
  obtain ⟨h1, h2, h3, h4⟩ := h
  refine ⟨va_K.moved (u := U) (U := U.calling g mk a) (Vm.Alike.refl U.vm) h1, fun w hw => ?_, fun C hC => (h3 C hC).moved (u := U) (U := U.calling g mk a) (Vm.Alike.refl U.vm), fun q hq => (h4 q hq).moved (u := U) (U := U.calling g mk a) (Vm.Alike.refl U.vm)⟩
  have h5 := h2 w hw
  have h6 := (List.mem_filter.mp hw).2
  cases w with
  | fieldLinkNest => exact va_Nw.same rfl rfl h5
  | methodLinkNest => exact va_Nw.same rfl rfl h5
  | declares => exact va_Nw.same rfl rfl h5
  | castable => exact va_Nw.same rfl rfl h5
  | _ => cases h6
def gL (B : Nat × Nat) (ls : Array Slot) (nL : Nat) (L : List (Option Value)) : Prop := ls.size = nL ∧ lv_wf ls ∧ ∀ (i : Nat) (v : Value), L[i]? = some (some v) → ls[i]? = some (Slot.val (gv B v))
abbrev gXT : Type := Program × Launch × Env × Room × State × MethodId × Array Value × List Frame × Method × Code × (State → Prop)
/-- a method's body: machine, code, tables -/
def gX (X : gXT) (D : gD) (B : Nat × Nat) (cc : ByteArray) (y : MethodName) (nL : Nat) (rt : Option FieldType) (rm : Room) (l : Launch) : Prop := match X with
  | (p, l', _, R, s, m, args, _, meth, c, _) => (p.tables.exec = Jvm.exec ∧ c.code = cc ∧ c.maxLocals = nL ∧ s.vm.findClass y.cls = some m.cls ∧ ∀ w ∈ lw_all, w.before args s = true) ∧ gK D s ∧ meth.locks = false ∧ B.2 ≤ s.heap.size ∧ meth.sig.returnType = rt ∧ R = rm ∧ l' = l ∧ meth.name = y.name
/-- from frame (pc, L, st) over the abstract heap h (n cells made; k cells and sl slots since the method's start) the machine comes to its end -/
def G (X : gXT) (D : gD) (B : Nat × Nat) (h : gHp) (n k sl : Nat) (L : List (Option Value)) (pc : Nat) (st : List Value) : Prop := match X with
  | (p, l, e, R, s, m, args, below, meth, c, Q) => ∀ (H : Heap) (locs : List Loc) (ls : Array Slot), gHw D B h n H → va_S (gA B) s.heap H locs → gL B ls c.maxLocals L → W p l e R s m args below meth c H locs k sl Q (F0 m pc ls (st.map (gv B)))
def gup (h : gHp) (a : Nat) (e : gC) : gHp := fun j => if j = a then some e else h j
/-- contracts -/
def gPost (D : gD) (B : Nat × Nat) (Q : Option Value → gHp → Nat → Prop) : Array Value → State → Outcome → State → Prop := fun _ st oc t => (∃ (v : Option Value) (h' : gHp) (n' : Nat), oc = .returned (v.map (gv B)) ∧ Q v h' n' ∧ gHw D B h' n' t.heap) ∧ va_F (gA B) st t
def Con (l : Launch) (y : MethodName) (ws : List Cond) (rm : Room) (D : gD) (B : Nat × Nat) (args : List Value) (h : gHp) (n : Nat) (Q : Option Value → gHp → Nat → Prop) (mc ms : Nat) : Prop :=
  Met l y ws rm (va_Pc (args.map (gv B)) (fun U => gHw D B h n U.heap ∧ gK D U)) (gPost D B Q) mc ms (gA B)
def gQ (X : gXT) (D : gD) (B : Nat × Nat) (Q : Option Value → gHp → Nat → Prop) (mc ms : Nat) : Prop := match X with
  | (_, _, _, _, s, _, args, below, _, _, Q') => Q' = MQ below (gPost D B Q) args s mc ms (gA B)
def gdt (v0 : Option Value) (h0 : gHp) (n0 : Nat) : Option Value → gHp → Nat → Prop := fun v h n => v = v0 ∧ h = h0 ∧ n = n0
def gsl (vs : List Value) : List (Option Value) := vs.flatMap fun v => if v.category = 2 then [some v, none] else [some v]
theorem gv_cat (B : Nat × Nat) (v : Value) : (gv B v).category = v.category := by cases v <;> rfl
theorem gsl_at {B : Nat × Nat} : ∀ (vs : List Value) (b i : Nat) (v : Value), (gsl vs)[i]? = some (some v) → (b + i, gv B v) ∈ lv_args b (vs.map (gv B))
  | [], b, i, v, h => by simp [gsl] at h
  | w :: vs, b, i, v, h => by
    show (b + i, gv B v) ∈ (b, gv B w) :: lv_args (if (gv B w).category = 2 then b + 2 else b + 1) (vs.map (gv B))
    rw [gv_cat]
    have h : ((if w.category = 2 then [some w, none] else [some w]) ++ gsl vs)[i]? = some (some v) := h
    by_cases hc : w.category = 2
    · rw [if_pos hc] at h ⊢
      match i, h with
      | 0, h => cases h; exact List.mem_cons_self
      | 1, h => cases h
      | i + 2, h =>
        have h2 := gsl_at (B := B) vs (b + 2) i v h
        rw [show b + 2 + i = b + (i + 2) by omega] at h2
        exact List.mem_cons_of_mem _ h2
    · rw [if_neg hc] at h ⊢
      match i, h with
      | 0, h => cases h; exact List.mem_cons_self
      | i + 1, h =>
        have h2 := gsl_at (B := B) vs (b + 1) i v h
        rw [show b + 1 + i = b + (i + 1) by omega] at h2
        exact List.mem_cons_of_mem _ h2
theorem gsl_len (B : Nat × Nat) : ∀ (vs : List Value), (lg_sl (vs.map (gv B))).length = (gsl vs).length
  | [] => rfl
  | w :: vs => by
    show ((if (gv B w).category = 2 then [Slot.val (gv B w), .second] else [.val (gv B w)]) ++ lg_sl (vs.map (gv B))).length = ((if w.category = 2 then [some w, none] else [some w]) ++ gsl vs).length
    rw [gv_cat, List.length_append, List.length_append, gsl_len B vs]
    by_cases hc : w.category = 2 <;> simp [hc]
set_option maxHeartbeats 1000000 in
/-- a contract out of a walk of the body -/
theorem Con.start {l : Launch} {y : MethodName} {cc : ByteArray} {maxL : Nat} {ret : Option FieldType} {rm : Room} {D : gD} {B : Nat × Nat} {args : List Value} {h : gHp} {n : Nat} {Q : Option Value → gHp → Nat → Prop} {mc ms : Nat} (hy : plainFor y = true) (hsz : (gsl args).length ≤ maxL) (hrc : rm.cells = mc) (hrs : rm.slots = ms)
    (body : ∀ X, gX X D B cc y maxL ret rm l → gQ X D B Q mc ms → G X D B h n 0 0 (gsl args) 0 []) : Con l y (ws_ y cc maxL ret) rm D B args h n Q mc ms := by
  refine va_MetF (cc := cc) (maxL := maxL) (ret := ret) hy rfl ?_
  intro p e s m a below meth c s₁ BL hml hv
  obtain ⟨rfl, hH, hK⟩ := hv
  have hts := atoms_spec (ws := ws_ y cc maxL ret) BL.pre
  have hts : ∀ w ∈ lw_all, w.before _ s = true := fun w h => hts w (List.mem_cons_of_mem _ h)
  have hown : s.vm.findClass y.cls = some m.cls := findClass_of_methodNamed BL.named
  have hl := lv_entry (args.map (gv B)) (n := maxL) (by rw [gsl_len]; exact hsz)
  rw [lg_entry_eq]
  generalize (lg_sl (args.map (gv B)) ++ List.replicate (maxL - (lg_sl (args.map (gv B))).length) Slot.unset).toArray = ls at hl ⊢
  have hr : (headSpec (ws_ y cc maxL ret) rm).room = rm := rfl
  rw [hr]
  exact body (p, l, e, rm, s, m, (args.map (gv B)).toArray, below, meth, c, _) ⟨⟨BL.exec, BL.bytes, hml, hown, hts⟩, hK, BL.notSynchronized, by rw [hH.1]; exact Nat.le_add_right _ _, BL.returns, rfl, rfl, (name_of_methodNamed BL.named BL.method).1⟩ rfl s.heap [] ls hH va_S.rf ⟨by rw [hml]; exact hl.1, hl.2.1, fun i v hi => by
    have h3 := gsl_at (B := B) args 0 i v hi
    rw [Nat.zero_add] at h3
    exact hl.2.2 _ h3⟩
section GR
variable {X : gXT} {D : gD} {B : Nat × Nat} {cc : ByteArray} {y : MethodName} {nL : Nat} {rt : Option FieldType} {rm : Room} {l : Launch} {h : gHp} {n k sl pc : Nat} {L L' : List (Option Value)} {st : List Value}
def gir (v : Value) : Bool := match v with
  | .ref _ => true
  | .null => true
  | _ => false
theorem gir_rf (r : Option Nat) : gir (va_rf r) = true := by cases r <;> rfl
theorem gv_rf (B : Nat × Nat) (r : Option Nat) : gv B (va_rf r) = va_rf (r.map (gad B)) := by cases r <;> rfl
theorem G.eq {h1 : gHp} {n1 : Nat} (e : h = h1) (e2 : n = n1) (kk : G X D B h1 n1 k sl L pc st) : G X D B h n k sl L pc st := by subst e; subst e2; exact kk
theorem G.topi {x : Int32} (kk : ∀ z : Int32, z = x → G X D B h n k sl L pc (.int z :: st)) : G X D B h n k sl L pc (.int x :: st) := kk x rfl
theorem G.topl {x : Int64} (kk : ∀ z : Int64, z = x → G X D B h n k sl L pc (.long z :: st)) : G X D B h n k sl L pc (.long x :: st) := kk x rfl
theorem G.widen {k' sl' : Nat} (h1 : k ≤ k') (h2 : sl ≤ sl') (kk : G X D B h n k' sl' L pc st) : G X D B h n k sl L pc st := by
  obtain ⟨p, l', e, R, s, m, args, below, meth, c, Q⟩ := X
  intro H locs ls hH hS hL
  exact W.widen h1 h2 (kk H locs ls hH hS hL)
/-- fewer locals known -/
def gmk : List Bool → List (Option Value) → List (Option Value)
  | b :: bs, v :: vs => (if b then v else none) :: gmk bs vs
  | _, _ => []
theorem gmk_at : ∀ (bs : List Bool) (L : List (Option Value)) (i : Nat) (v : Value), (gmk bs L)[i]? = some (some v) → L[i]? = some (some v)
  | [], L, i, v, h => by simp [gmk] at h
  | b :: bs, [], i, v, h => by simp [gmk] at h
  | b :: bs, w :: L, 0, v, h => by
    cases b
    · cases h
    · exact h
  | b :: bs, w :: L, i + 1, v, h => gmk_at bs L i v h
theorem G.mask (bs : List Bool) (hb : gmk bs L = L') (kk : G X D B h n k sl L' pc st) : G X D B h n k sl L pc st := by
  obtain ⟨p, l', e, R, s, m, args, below, meth, c, Q⟩ := X
  intro H locs ls hH hS hL
  subst hb
  exact kk H locs ls hH hS ⟨hL.1, hL.2.1, fun i v hi => hL.2.2 i v (gmk_at bs L i v hi)⟩
theorem g_iconst (C : gX X D B cc y nL rt rm l) {z : Int} {v : Int32} (hd : decode cc pc = .ok (.iconst z, 1)) (hv : Int32.ofInt z = v) (kk : G X D B h n k sl L (pc + 1) (.int v :: st)) : G X D B h n k sl L pc (st) := by
  obtain ⟨p, l', e, R, s, m, args, below, meth, c, Q⟩ := X
  intro H locs ls hH hS hL
  exact lv_iconst C.1.1 C.1.2.1 hd hv (kk H locs ls hH hS hL)
theorem g_bipush (C : gX X D B cc y nL rt rm l) {z : Int} {v : Int32} (hd : decode cc pc = .ok (.bipush z, 2)) (hv : (Int8.ofInt z).toInt32 = v) (kk : G X D B h n k sl L (pc + 2) (.int v :: st)) : G X D B h n k sl L pc (st) := by
  obtain ⟨p, l', e, R, s, m, args, below, meth, c, Q⟩ := X
  intro H locs ls hH hS hL
  exact lv_bipush C.1.1 C.1.2.1 hd hv (kk H locs ls hH hS hL)
theorem g_sipush (C : gX X D B cc y nL rt rm l) {z : Int} {v : Int32} (hd : decode cc pc = .ok (.sipush z, 3)) (hv : (Int16.ofInt z).toInt32 = v) (kk : G X D B h n k sl L (pc + 3) (.int v :: st)) : G X D B h n k sl L pc (st) := by
  obtain ⟨p, l', e, R, s, m, args, below, meth, c, Q⟩ := X
  intro H locs ls hH hS hL
  exact lv_sipush C.1.1 C.1.2.1 hd hv (kk H locs ls hH hS hL)
theorem g_lconst (C : gX X D B cc y nL rt rm l) {z : Fin 2} {v : Int64} (hd : decode cc pc = .ok (.lconst z, 1)) (hv : Int64.ofNat (z : Nat) = v) (kk : G X D B h n k sl L (pc + 1) (.long v :: st)) : G X D B h n k sl L pc (st) := by
  obtain ⟨p, l', e, R, s, m, args, below, meth, c, Q⟩ := X
  intro H locs ls hH hS hL
  exact lv_lconst C.1.1 C.1.2.1 hd hv (kk H locs ls hH hS hL)
theorem g_aconst_null (C : gX X D B cc y nL rt rm l) (hd : decode cc pc = .ok (.aconst_null, 1)) (kk : G X D B h n k sl L (pc + 1) (.null :: st)) : G X D B h n k sl L pc (st) := by
  obtain ⟨p, l', e, R, s, m, args, below, meth, c, Q⟩ := X
  intro H locs ls hH hS hL
  exact lv_null C.1.1 C.1.2.1 hd (kk H locs ls hH hS hL)
theorem g_ldc_w (C : gX X D B cc y nL rt rm l) {z : Nat} {v : Int32} (hd : decode cc pc = .ok (.ldc_w z, 3)) (hv : Cond.constant y.cls z v ∈ lw_all) (kk : G X D B h n k sl L (pc + 3) (.int v :: st)) : G X D B h n k sl L pc (st) := by
  obtain ⟨p, l', e, R, s, m, args, below, meth, c, Q⟩ := X
  intro H locs ls hH hS hL
  exact lv_ldcw C.1.1 C.1.2.1 C.1.2.2.2.1 (C.1.2.2.2.2 _ hv) hd (kk H locs ls hH hS hL)
theorem g_ldc2_w (C : gX X D B cc y nL rt rm l) {z : Nat} {v : Int64} (hd : decode cc pc = .ok (.ldc2_w z, 3)) (hv : Cond.constantLong y.cls z v ∈ lw_all) (kk : G X D B h n k sl L (pc + 3) (.long v :: st)) : G X D B h n k sl L pc (st) := by
  obtain ⟨p, l', e, R, s, m, args, below, meth, c, Q⟩ := X
  intro H locs ls hH hS hL
  exact lv_ldc2 C.1.1 C.1.2.1 C.1.2.2.2.1 (C.1.2.2.2.2 _ hv) hd (kk H locs ls hH hS hL)
theorem g_iload_n (C : gX X D B cc y nL rt rm l) {z : Fin 4} {x : Int32} (hd : decode cc pc = .ok (.iload_n z, 1)) (hv : L[(z : Nat)]? = some (some (.int x))) (kk : G X D B h n k sl L (pc + 1) (.int x :: st)) : G X D B h n k sl L pc (st) := by
  obtain ⟨p, l', e, R, s, m, args, below, meth, c, Q⟩ := X
  intro H locs ls hH hS hL
  exact lv_iload_n C.1.1 C.1.2.1 hd rfl (hL.2.2 _ _ hv) (kk H locs ls hH hS hL)
theorem g_iload (C : gX X D B cc y nL rt rm l) {z : Nat} {x : Int32} (hd : decode cc pc = .ok (.iload z, 2)) (hv : L[z]? = some (some (.int x))) (kk : G X D B h n k sl L (pc + 2) (.int x :: st)) : G X D B h n k sl L pc (st) := by
  obtain ⟨p, l', e, R, s, m, args, below, meth, c, Q⟩ := X
  intro H locs ls hH hS hL
  exact lv_iload C.1.1 C.1.2.1 hd (hL.2.2 _ _ hv) (kk H locs ls hH hS hL)
theorem g_lload_n (C : gX X D B cc y nL rt rm l) {z : Fin 4} {x : Int64} (hd : decode cc pc = .ok (.lload_n z, 1)) (hv : L[(z : Nat)]? = some (some (.long x))) (kk : G X D B h n k sl L (pc + 1) (.long x :: st)) : G X D B h n k sl L pc (st) := by
  obtain ⟨p, l', e, R, s, m, args, below, meth, c, Q⟩ := X
  intro H locs ls hH hS hL
  exact lv_lload_n C.1.1 C.1.2.1 hd rfl (hL.2.2 _ _ hv) (kk H locs ls hH hS hL)
theorem g_lload (C : gX X D B cc y nL rt rm l) {z : Nat} {x : Int64} (hd : decode cc pc = .ok (.lload z, 2)) (hv : L[z]? = some (some (.long x))) (kk : G X D B h n k sl L (pc + 2) (.long x :: st)) : G X D B h n k sl L pc (st) := by
  obtain ⟨p, l', e, R, s, m, args, below, meth, c, Q⟩ := X
  intro H locs ls hH hS hL
  exact lv_lload C.1.1 C.1.2.1 hd (hL.2.2 _ _ hv) (kk H locs ls hH hS hL)
theorem g_aload_n (C : gX X D B cc y nL rt rm l) {z : Fin 4} {v : Value} (hd : decode cc pc = .ok (.aload_n z, 1)) (hv : L[(z : Nat)]? = some (some v)) (hr : gir v = true) (kk : G X D B h n k sl L (pc + 1) (v :: st)) : G X D B h n k sl L pc st := by
  obtain ⟨p, l', e, R, s, m, args, below, meth, c, Q⟩ := X
  intro H locs ls hH hS hL
  cases v with
  | ref a => exact lv_aload_n C.1.1 C.1.2.1 hd rfl (hL.2.2 _ _ hv) (kk H locs ls hH hS hL)
  | null => exact lv_aload_nN C.1.1 C.1.2.1 hd rfl (hL.2.2 _ _ hv) (kk H locs ls hH hS hL)
  | _ => cases hr
theorem g_aload (C : gX X D B cc y nL rt rm l) {z : Nat} {v : Value} (hd : decode cc pc = .ok (.aload z, 2)) (hv : L[z]? = some (some v)) (hr : gir v = true) (kk : G X D B h n k sl L (pc + 2) (v :: st)) : G X D B h n k sl L pc st := by
  obtain ⟨p, l', e, R, s, m, args, below, meth, c, Q⟩ := X
  intro H locs ls hH hS hL
  cases v with
  | ref a => exact lv_aload C.1.1 C.1.2.1 hd (hL.2.2 _ _ hv) (kk H locs ls hH hS hL)
  | null => exact lv_aloadN C.1.1 C.1.2.1 hd (hL.2.2 _ _ hv) (kk H locs ls hH hS hL)
  | _ => cases hr
/-- no wide value ends at place i -/
def gnl (L : List (Option Value)) (i : Nat) : Bool := match i with
  | 0 => true
  | j + 1 => match L[j]? with
    | some (some v) => !(v.category == 2)
    | _ => true
def gvs (L : List (Option Value)) : List (Nat × Value) := (List.range L.length).filterMap (fun i => match L[i]? with
  | some (some v) => some (i, v)
  | _ => none)
theorem gvs_mem {L : List (Option Value)} {i : Nat} {v : Value} : (i, v) ∈ gvs L ↔ L[i]? = some (some v) := by
  unfold gvs
  rw [List.mem_filterMap]
  constructor
  · rintro ⟨j, -, hj⟩
    split at hj
    · rename_i w hw
      cases hj
      exact hw
    · cases hj
  · intro h
    refine ⟨i, List.mem_range.mpr (List.getElem?_eq_some_iff.mp h).1, ?_⟩
    rw [h]
theorem gL.has {B : Nat × Nat} {ls : Array Slot} {nL : Nat} {L : List (Option Value)} (h : gL B ls nL L) : lv_has ls nL ((gvs L).map (fun q => (q.1, gv B q.2))) := by
  refine ⟨h.1, h.2.1, fun q hq => ?_⟩
  obtain ⟨q', hq', rfl⟩ := List.mem_map.mp hq
  exact h.2.2 _ _ (gvs_mem.mp hq')
theorem gL.store1 {B : Nat × Nat} {ls : Array Slot} {nL i : Nat} {L : List (Option Value)} {v : Value} (hn : gnl L i = true) (l2 : List (Nat × Value)) (h2 : lv_has ls nL l2) (e : (i, gv B v) :: ((gvs L).map (fun q => (q.1, gv B q.2))).filter (fun q => !(q.1 == i) && !(q.1 + 1 == i && q.2.category == 2)) = l2) : gL B ls nL (L.set i (some v)) := by
  refine ⟨h2.1, h2.2.1, fun j w hj => ?_⟩
  refine h2.2.2 (j, gv B w) ?_
  rw [← e]
  by_cases hji : j = i
  · subst hji
    have hl : j < L.length := by have := (List.getElem?_eq_some_iff.mp hj).1; simpa using this
    rw [List.getElem?_set_self hl] at hj
    cases hj
    exact List.mem_cons_self
  · rw [List.getElem?_set_ne (Ne.symm hji)] at hj
    refine List.mem_cons_of_mem _ (List.mem_filter.mpr ⟨List.mem_map.mpr ⟨(j, w), gvs_mem.mpr hj, rfl⟩, ?_⟩)
    have h1 : (j == i) = false := by simpa using hji
    rw [Bool.and_eq_true]
    refine ⟨by simp [h1], ?_⟩
    by_cases hj1 : j + 1 = i
    · subst hj1
      have h3 : (!(w.category == 2)) = true := by simpa [gnl, hj] using hn
      simp [gv_cat]
      simpa using h3
    · simp [hj1]
theorem gL.store2 {B : Nat × Nat} {ls : Array Slot} {nL i : Nat} {L : List (Option Value)} {v : Value} (hn : gnl L i = true) (l2 : List (Nat × Value)) (h2 : lv_has ls nL l2) (e : (i, gv B v) :: ((gvs L).map (fun q => (q.1, gv B q.2))).filter (fun q => !(q.1 == i) && (!(q.1 == i + 1) && !(q.1 + 1 == i && q.2.category == 2))) = l2) : gL B ls nL ((L.set i (some v)).set (i + 1) none) := by
  refine ⟨h2.1, h2.2.1, fun j w hj => ?_⟩
  refine h2.2.2 (j, gv B w) ?_
  rw [← e]
  by_cases hj1 : j = i + 1
  · subst hj1
    have hl : i + 1 < L.length := by have := (List.getElem?_eq_some_iff.mp hj).1; simpa using this
    rw [List.getElem?_set_self (by simpa using hl)] at hj
    cases hj
  rw [List.getElem?_set_ne (Ne.symm hj1)] at hj
  by_cases hji : j = i
  · subst hji
    have hl : j < L.length := by have := (List.getElem?_eq_some_iff.mp hj).1; simpa using this
    rw [List.getElem?_set_self hl] at hj
    cases hj
    exact List.mem_cons_self
  · rw [List.getElem?_set_ne (Ne.symm hji)] at hj
    refine List.mem_cons_of_mem _ (List.mem_filter.mpr ⟨List.mem_map.mpr ⟨(j, w), gvs_mem.mpr hj, rfl⟩, ?_⟩)
    have h1 : (j == i) = false := by simpa using hji
    have h4 : (j == i + 1) = false := by simpa using hj1
    rw [Bool.and_eq_true, Bool.and_eq_true]
    refine ⟨by simp [h1], by simp [h4], ?_⟩
    by_cases hj1 : j + 1 = i
    · subst hj1
      have h3 : (!(w.category == 2)) = true := by simpa [gnl, hj] using hn
      simp [gv_cat]
      simpa using h3
    · simp [hj1]
theorem g_istore_n (C : gX X D B cc y nL rt rm l) {z : Fin 4} {x : Int32} (hd : decode cc pc = .ok (.istore_n z, 1)) (hb : (z : Nat) < nL) (hn : gnl L (z : Nat) = true) (hl : L.set (z : Nat) (some (.int x)) = L') (kk : G X D B h n k sl L' (pc + 1) st) : G X D B h n k sl L pc (.int x :: st) := by
  obtain ⟨p, l', e, R, s, m, args, below, meth, c, Q⟩ := X
  intro H locs ls hH hS hL
  subst hl
  have hb : (z : Nat) < c.maxLocals := by rw [C.1.2.2.1]; exact hb
  exact lv_istore_n C.1.1 C.1.2.1 hd rfl hL.has hb rfl (fun ls' hl' => kk H locs ls' hH hS (gL.store1 (v := .int x) hn _ hl' rfl))
theorem g_istore (C : gX X D B cc y nL rt rm l) {z : Nat} {x : Int32} (hd : decode cc pc = .ok (.istore z, 2)) (hb : z < nL) (hn : gnl L z = true) (hl : L.set z (some (.int x)) = L') (kk : G X D B h n k sl L' (pc + 2) st) : G X D B h n k sl L pc (.int x :: st) := by
  obtain ⟨p, l', e, R, s, m, args, below, meth, c, Q⟩ := X
  intro H locs ls hH hS hL
  subst hl
  have hb : z < c.maxLocals := by rw [C.1.2.2.1]; exact hb
  exact lv_istore C.1.1 C.1.2.1 hd hL.has hb rfl (fun ls' hl' => kk H locs ls' hH hS (gL.store1 (v := .int x) hn _ hl' rfl))
theorem g_lstore_n (C : gX X D B cc y nL rt rm l) {z : Fin 4} {x : Int64} (hd : decode cc pc = .ok (.lstore_n z, 1)) (hb : (z : Nat) + 1 < nL) (hn : gnl L (z : Nat) = true) (hl : (L.set (z : Nat) (some (.long x))).set ((z : Nat) + 1) none = L') (kk : G X D B h n k sl L' (pc + 1) st) : G X D B h n k sl L pc (.long x :: st) := by
  obtain ⟨p, l', e, R, s, m, args, below, meth, c, Q⟩ := X
  intro H locs ls hH hS hL
  subst hl
  have hb : (z : Nat) + 1 < c.maxLocals := by rw [C.1.2.2.1]; exact hb
  exact lv_lstore_n C.1.1 C.1.2.1 hd rfl hL.has hb rfl (fun ls' hl' => kk H locs ls' hH hS (gL.store2 (v := .long x) hn _ hl' rfl))
theorem g_lstore (C : gX X D B cc y nL rt rm l) {z : Nat} {x : Int64} (hd : decode cc pc = .ok (.lstore z, 2)) (hb : z + 1 < nL) (hn : gnl L z = true) (hl : (L.set z (some (.long x))).set (z + 1) none = L') (kk : G X D B h n k sl L' (pc + 2) st) : G X D B h n k sl L pc (.long x :: st) := by
  obtain ⟨p, l', e, R, s, m, args, below, meth, c, Q⟩ := X
  intro H locs ls hH hS hL
  subst hl
  have hb : z + 1 < c.maxLocals := by rw [C.1.2.2.1]; exact hb
  exact lv_lstore C.1.1 C.1.2.1 hd hL.has hb rfl (fun ls' hl' => kk H locs ls' hH hS (gL.store2 (v := .long x) hn _ hl' rfl))
theorem g_astore_n (C : gX X D B cc y nL rt rm l) {z : Fin 4} {v : Value} (hd : decode cc pc = .ok (.astore_n z, 1)) (hr : gir v = true) (hb : (z : Nat) < nL) (hn : gnl L (z : Nat) = true) (hl : L.set (z : Nat) (some v) = L') (kk : G X D B h n k sl L' (pc + 1) st) : G X D B h n k sl L pc (v :: st) := by
  obtain ⟨p, l', e, R, s, m, args, below, meth, c, Q⟩ := X
  intro H locs ls hH hS hL
  subst hl
  have hb : (z : Nat) < c.maxLocals := by rw [C.1.2.2.1]; exact hb
  cases v with
  | ref a => exact lv_astore_n C.1.1 C.1.2.1 hd rfl hL.has hb rfl (fun ls' hl' => kk H locs ls' hH hS (gL.store1 (v := .ref a) hn _ hl' rfl))
  | null => exact lv_astore_nN C.1.1 C.1.2.1 hd rfl hL.has hb rfl (fun ls' hl' => kk H locs ls' hH hS (gL.store1 (v := .null) hn _ hl' rfl))
  | _ => cases hr
theorem g_astore (C : gX X D B cc y nL rt rm l) {z : Nat} {v : Value} (hd : decode cc pc = .ok (.astore z, 2)) (hr : gir v = true) (hb : z < nL) (hn : gnl L z = true) (hl : L.set z (some v) = L') (kk : G X D B h n k sl L' (pc + 2) st) : G X D B h n k sl L pc (v :: st) := by
  obtain ⟨p, l', e, R, s, m, args, below, meth, c, Q⟩ := X
  intro H locs ls hH hS hL
  subst hl
  have hb : z < c.maxLocals := by rw [C.1.2.2.1]; exact hb
  cases v with
  | ref a => exact lv_astore C.1.1 C.1.2.1 hd hL.has hb rfl (fun ls' hl' => kk H locs ls' hH hS (gL.store1 (v := .ref a) hn _ hl' rfl))
  | null => exact lv_astoreN C.1.1 C.1.2.1 hd hL.has hb rfl (fun ls' hl' => kk H locs ls' hH hS (gL.store1 (v := .null) hn _ hl' rfl))
  | _ => cases hr
theorem g_iinc (C : gX X D B cc y nL rt rm l) {z : Nat} {d : Int} {x v : Int32} (hd : decode cc pc = .ok (.iinc z d, 3)) (hx : L[z]? = some (some (.int x))) (hv : x + Int32.ofInt d = v) (hb : z < nL) (hn : gnl L z = true) (hl : L.set z (some (.int v)) = L') (kk : G X D B h n k sl L' (pc + 3) st) : G X D B h n k sl L pc st := by
  obtain ⟨p, l', e, R, s, m, args, below, meth, c, Q⟩ := X
  intro H locs ls hH hS hL
  subst hl
  have hb : z < c.maxLocals := by rw [C.1.2.2.1]; exact hb
  have hm : (z, Value.int x) ∈ (gvs L).map (fun q => (q.1, gv B q.2)) := List.mem_map.mpr ⟨(z, .int x), gvs_mem.mpr hx, rfl⟩
  obtain ⟨q, hq⟩ := List.getElem?_of_mem hm
  exact lv_iinc C.1.1 C.1.2.1 hd hL.has hq hv hb rfl (fun ls' hl' => kk H locs ls' hH hS (gL.store1 (v := .int v) hn _ hl' rfl))
theorem g_iadd (C : gX X D B cc y nL rt rm l) {x z : Int32} (hd : decode cc pc = .ok (.iadd, 1)) (kk : G X D B h n k sl L (pc + 1) (.int (x + z) :: st)) : G X D B h n k sl L pc (.int z :: .int x :: st) := by
  obtain ⟨p, l', e, R, s, m, args, below, meth, c, Q⟩ := X
  intro H locs ls hH hS hL
  exact lv_iadd C.1.1 C.1.2.1 hd (kk H locs ls hH hS hL)
theorem g_isub (C : gX X D B cc y nL rt rm l) {x z : Int32} (hd : decode cc pc = .ok (.isub, 1)) (kk : G X D B h n k sl L (pc + 1) (.int (x - z) :: st)) : G X D B h n k sl L pc (.int z :: .int x :: st) := by
  obtain ⟨p, l', e, R, s, m, args, below, meth, c, Q⟩ := X
  intro H locs ls hH hS hL
  exact lv_isub C.1.1 C.1.2.1 hd (kk H locs ls hH hS hL)
theorem g_imul (C : gX X D B cc y nL rt rm l) {x z : Int32} (hd : decode cc pc = .ok (.imul, 1)) (kk : G X D B h n k sl L (pc + 1) (.int (x * z) :: st)) : G X D B h n k sl L pc (.int z :: .int x :: st) := by
  obtain ⟨p, l', e, R, s, m, args, below, meth, c, Q⟩ := X
  intro H locs ls hH hS hL
  exact lv_imul C.1.1 C.1.2.1 hd (kk H locs ls hH hS hL)
theorem g_iand (C : gX X D B cc y nL rt rm l) {x z : Int32} (hd : decode cc pc = .ok (.iand, 1)) (kk : G X D B h n k sl L (pc + 1) (.int (x &&& z) :: st)) : G X D B h n k sl L pc (.int z :: .int x :: st) := by
  obtain ⟨p, l', e, R, s, m, args, below, meth, c, Q⟩ := X
  intro H locs ls hH hS hL
  exact lv_iand C.1.1 C.1.2.1 hd (kk H locs ls hH hS hL)
theorem g_ior (C : gX X D B cc y nL rt rm l) {x z : Int32} (hd : decode cc pc = .ok (.ior, 1)) (kk : G X D B h n k sl L (pc + 1) (.int (x ||| z) :: st)) : G X D B h n k sl L pc (.int z :: .int x :: st) := by
  obtain ⟨p, l', e, R, s, m, args, below, meth, c, Q⟩ := X
  intro H locs ls hH hS hL
  exact lv_ior C.1.1 C.1.2.1 hd (kk H locs ls hH hS hL)
theorem g_ixor (C : gX X D B cc y nL rt rm l) {x z : Int32} (hd : decode cc pc = .ok (.ixor, 1)) (kk : G X D B h n k sl L (pc + 1) (.int (x ^^^ z) :: st)) : G X D B h n k sl L pc (.int z :: .int x :: st) := by
  obtain ⟨p, l', e, R, s, m, args, below, meth, c, Q⟩ := X
  intro H locs ls hH hS hL
  exact lv_ixor C.1.1 C.1.2.1 hd (kk H locs ls hH hS hL)
theorem g_ishl (C : gX X D B cc y nL rt rm l) {x z : Int32} (hd : decode cc pc = .ok (.ishl, 1)) (kk : G X D B h n k sl L (pc + 1) (.int (x <<< (z &&& 31)) :: st)) : G X D B h n k sl L pc (.int z :: .int x :: st) := by
  obtain ⟨p, l', e, R, s, m, args, below, meth, c, Q⟩ := X
  intro H locs ls hH hS hL
  exact lv_ishl C.1.1 C.1.2.1 hd (kk H locs ls hH hS hL)
theorem g_ishr (C : gX X D B cc y nL rt rm l) {x z : Int32} (hd : decode cc pc = .ok (.ishr, 1)) (kk : G X D B h n k sl L (pc + 1) (.int (x >>> (z &&& 31)) :: st)) : G X D B h n k sl L pc (.int z :: .int x :: st) := by
  obtain ⟨p, l', e, R, s, m, args, below, meth, c, Q⟩ := X
  intro H locs ls hH hS hL
  exact lv_ishr C.1.1 C.1.2.1 hd (kk H locs ls hH hS hL)
theorem g_ladd (C : gX X D B cc y nL rt rm l) {x z : Int64} (hd : decode cc pc = .ok (.ladd, 1)) (kk : G X D B h n k sl L (pc + 1) (.long (x + z) :: st)) : G X D B h n k sl L pc (.long z :: .long x :: st) := by
  obtain ⟨p, l', e, R, s, m, args, below, meth, c, Q⟩ := X
  intro H locs ls hH hS hL
  exact lv_ladd C.1.1 C.1.2.1 hd (kk H locs ls hH hS hL)
theorem g_lsub (C : gX X D B cc y nL rt rm l) {x z : Int64} (hd : decode cc pc = .ok (.lsub, 1)) (kk : G X D B h n k sl L (pc + 1) (.long (x - z) :: st)) : G X D B h n k sl L pc (.long z :: .long x :: st) := by
  obtain ⟨p, l', e, R, s, m, args, below, meth, c, Q⟩ := X
  intro H locs ls hH hS hL
  exact lv_lsub C.1.1 C.1.2.1 hd (kk H locs ls hH hS hL)
theorem g_lmul (C : gX X D B cc y nL rt rm l) {x z : Int64} (hd : decode cc pc = .ok (.lmul, 1)) (kk : G X D B h n k sl L (pc + 1) (.long (x * z) :: st)) : G X D B h n k sl L pc (.long z :: .long x :: st) := by
  obtain ⟨p, l', e, R, s, m, args, below, meth, c, Q⟩ := X
  intro H locs ls hH hS hL
  exact lv_lmul C.1.1 C.1.2.1 hd (kk H locs ls hH hS hL)
theorem g_land (C : gX X D B cc y nL rt rm l) {x z : Int64} (hd : decode cc pc = .ok (.land, 1)) (kk : G X D B h n k sl L (pc + 1) (.long (x &&& z) :: st)) : G X D B h n k sl L pc (.long z :: .long x :: st) := by
  obtain ⟨p, l', e, R, s, m, args, below, meth, c, Q⟩ := X
  intro H locs ls hH hS hL
  exact lv_land C.1.1 C.1.2.1 hd (kk H locs ls hH hS hL)
theorem g_lor (C : gX X D B cc y nL rt rm l) {x z : Int64} (hd : decode cc pc = .ok (.lor, 1)) (kk : G X D B h n k sl L (pc + 1) (.long (x ||| z) :: st)) : G X D B h n k sl L pc (.long z :: .long x :: st) := by
  obtain ⟨p, l', e, R, s, m, args, below, meth, c, Q⟩ := X
  intro H locs ls hH hS hL
  exact lv_lor C.1.1 C.1.2.1 hd (kk H locs ls hH hS hL)
theorem g_lxor (C : gX X D B cc y nL rt rm l) {x z : Int64} (hd : decode cc pc = .ok (.lxor, 1)) (kk : G X D B h n k sl L (pc + 1) (.long (x ^^^ z) :: st)) : G X D B h n k sl L pc (.long z :: .long x :: st) := by
  obtain ⟨p, l', e, R, s, m, args, below, meth, c, Q⟩ := X
  intro H locs ls hH hS hL
  exact lv_lxor C.1.1 C.1.2.1 hd (kk H locs ls hH hS hL)
def jrem (x z : Int32) : Int32 := x - x / z * z
def jlrem (x z : Int64) : Int64 := x - x / z * z
theorem g_irem (C : gX X D B cc y nL rt rm l) {x z : Int32} (hd : decode cc pc = .ok (.irem, 1)) (hz : ¬ z = 0) (kk : G X D B h n k sl L (pc + 1) (.int (jrem x z) :: st)) : G X D B h n k sl L pc (.int z :: .int x :: st) := by
  obtain ⟨p, l', e, R, s, m, args, below, meth, c, Q⟩ := X
  intro H locs ls hH hS hL
  exact lv_irem C.1.1 C.1.2.1 hd hz (kk H locs ls hH hS hL)
theorem g_lrem (C : gX X D B cc y nL rt rm l) {x z : Int64} (hd : decode cc pc = .ok (.lrem, 1)) (hz : ¬ z = 0) (kk : G X D B h n k sl L (pc + 1) (.long (jlrem x z) :: st)) : G X D B h n k sl L pc (.long z :: .long x :: st) := by
  obtain ⟨p, l', e, R, s, m, args, below, meth, c, Q⟩ := X
  intro H locs ls hH hS hL
  exact lv_lrem C.1.1 C.1.2.1 hd hz (kk H locs ls hH hS hL)
theorem g_ineg (C : gX X D B cc y nL rt rm l) {x : Int32} (hd : decode cc pc = .ok (.ineg, 1)) (kk : G X D B h n k sl L (pc + 1) (.int (-x) :: st)) : G X D B h n k sl L pc (.int x :: st) := by
  obtain ⟨p, l', e, R, s, m, args, below, meth, c, Q⟩ := X
  intro H locs ls hH hS hL
  exact lv_ineg C.1.1 C.1.2.1 hd (kk H locs ls hH hS hL)
theorem g_iushr (C : gX X D B cc y nL rt rm l) {x z v : Int32} (hd : decode cc pc = .ok (.iushr, 1)) (hv : (x.toUInt32 >>> (z.toUInt32 &&& Int32.toUInt32 31)).toInt32 = v) (kk : G X D B h n k sl L (pc + 1) (.int v :: st)) : G X D B h n k sl L pc (.int z :: .int x :: st) := by
  obtain ⟨p, l', e, R, s, m, args, below, meth, c, Q⟩ := X
  intro H locs ls hH hS hL
  exact lv_iushr C.1.1 C.1.2.1 hd hv (kk H locs ls hH hS hL)
theorem g_lshl (C : gX X D B cc y nL rt rm l) {x v : Int64} {z : Int32} (hd : decode cc pc = .ok (.lshl, 1)) (hv : x <<< (z.toInt64 &&& 63) = v) (kk : G X D B h n k sl L (pc + 1) (.long v :: st)) : G X D B h n k sl L pc (.int z :: .long x :: st) := by
  obtain ⟨p, l', e, R, s, m, args, below, meth, c, Q⟩ := X
  intro H locs ls hH hS hL
  exact lv_lshl C.1.1 C.1.2.1 hd hv (kk H locs ls hH hS hL)
theorem g_lshr (C : gX X D B cc y nL rt rm l) {x v : Int64} {z : Int32} (hd : decode cc pc = .ok (.lshr, 1)) (hv : x >>> (z.toInt64 &&& 63) = v) (kk : G X D B h n k sl L (pc + 1) (.long v :: st)) : G X D B h n k sl L pc (.int z :: .long x :: st) := by
  obtain ⟨p, l', e, R, s, m, args, below, meth, c, Q⟩ := X
  intro H locs ls hH hS hL
  exact lv_lshr C.1.1 C.1.2.1 hd hv (kk H locs ls hH hS hL)
theorem g_lushr (C : gX X D B cc y nL rt rm l) {x v : Int64} {z : Int32} (hd : decode cc pc = .ok (.lushr, 1)) (hv : (x.toUInt64 >>> (z.toInt64.toUInt64 &&& Int64.toUInt64 63)).toInt64 = v) (kk : G X D B h n k sl L (pc + 1) (.long v :: st)) : G X D B h n k sl L pc (.int z :: .long x :: st) := by
  obtain ⟨p, l', e, R, s, m, args, below, meth, c, Q⟩ := X
  intro H locs ls hH hS hL
  exact lv_lushr C.1.1 C.1.2.1 hd hv (kk H locs ls hH hS hL)
theorem g_i2l (C : gX X D B cc y nL rt rm l) {x : Int32} {v : Int64} (hd : decode cc pc = .ok (.i2l, 1)) (hv : x.toInt64 = v) (kk : G X D B h n k sl L (pc + 1) (.long v :: st)) : G X D B h n k sl L pc (.int x :: st) := by
  obtain ⟨p, l', e, R, s, m, args, below, meth, c, Q⟩ := X
  intro H locs ls hH hS hL
  exact lv_i2l C.1.1 C.1.2.1 hd hv (kk H locs ls hH hS hL)
theorem g_l2i (C : gX X D B cc y nL rt rm l) {x : Int64} {v : Int32} (hd : decode cc pc = .ok (.l2i, 1)) (hv : x.toInt32 = v) (kk : G X D B h n k sl L (pc + 1) (.int v :: st)) : G X D B h n k sl L pc (.long x :: st) := by
  obtain ⟨p, l', e, R, s, m, args, below, meth, c, Q⟩ := X
  intro H locs ls hH hS hL
  exact lv_l2i C.1.1 C.1.2.1 hd hv (kk H locs ls hH hS hL)
theorem g_i2b (C : gX X D B cc y nL rt rm l) {x v : Int32} (hd : decode cc pc = .ok (.i2b, 1)) (hv : x.toInt8.toInt32 = v) (kk : G X D B h n k sl L (pc + 1) (.int v :: st)) : G X D B h n k sl L pc (.int x :: st) := by
  obtain ⟨p, l', e, R, s, m, args, below, meth, c, Q⟩ := X
  intro H locs ls hH hS hL
  exact lv_i2b C.1.1 C.1.2.1 hd hv (kk H locs ls hH hS hL)
theorem g_lcmp (C : gX X D B cc y nL rt rm l) {x z : Int64} (hd : decode cc pc = .ok (.lcmp, 1)) (kk : G X D B h n k sl L (pc + 1) (.int (lg_cmp x z) :: st)) : G X D B h n k sl L pc (.long z :: .long x :: st) := by
  obtain ⟨p, l', e, R, s, m, args, below, meth, c, Q⟩ := X
  intro H locs ls hH hS hL
  exact W.lcmp C.1.1 C.1.2.1 hd (kk H locs ls hH hS hL)
theorem g_dup (C : gX X D B cc y nL rt rm l) {v : Value} (hd : decode cc pc = .ok (.dup, 1)) (hv : v.category = 1) (kk : G X D B h n k sl L (pc + 1) (v :: v :: st)) : G X D B h n k sl L pc (v :: st) := by
  obtain ⟨p, l', e, R, s, m, args, below, meth, c, Q⟩ := X
  intro H locs ls hH hS hL
  exact lv_dup C.1.1 C.1.2.1 hd (by rw [gv_cat]; exact hv) (kk H locs ls hH hS hL)
theorem g_pop (C : gX X D B cc y nL rt rm l) {v : Value} (hd : decode cc pc = .ok (.pop, 1)) (hv : v.category = 1) (kk : G X D B h n k sl L (pc + 1) (st)) : G X D B h n k sl L pc (v :: st) := by
  obtain ⟨p, l', e, R, s, m, args, below, meth, c, Q⟩ := X
  intro H locs ls hH hS hL
  exact lv_pop C.1.1 C.1.2.1 hd (by rw [gv_cat]; exact hv) (kk H locs ls hH hS hL)
theorem g_dup_x1 (C : gX X D B cc y nL rt rm l) {v w : Value} (hd : decode cc pc = .ok (.dup_x1, 1)) (hv : v.category = 1) (hw : w.category = 1) (kk : G X D B h n k sl L (pc + 1) (v :: w :: v :: st)) : G X D B h n k sl L pc (v :: w :: st) := by
  obtain ⟨p, l', e, R, s, m, args, below, meth, c, Q⟩ := X
  intro H locs ls hH hS hL
  exact lv_dup_x1 C.1.1 C.1.2.1 hd (by rw [gv_cat]; exact hv) (by rw [gv_cat]; exact hw) (kk H locs ls hH hS hL)
theorem g_dup2 (C : gX X D B cc y nL rt rm l) {v w : Value} (hd : decode cc pc = .ok (.dup2, 1)) (hv : v.category = 1) (hw : w.category = 1) (kk : G X D B h n k sl L (pc + 1) (v :: w :: v :: w :: st)) : G X D B h n k sl L pc (v :: w :: st) := by
  obtain ⟨p, l', e, R, s, m, args, below, meth, c, Q⟩ := X
  intro H locs ls hH hS hL
  exact lv_dup2_11 C.1.1 C.1.2.1 hd (by rw [gv_cat]; exact hv) (by rw [gv_cat]; exact hw) (kk H locs ls hH hS hL)
theorem gnlt {x z : Int32} : z ≤ x ↔ ¬ x < z := Int32.not_lt.symm
theorem g_if_eq (C : gX X D B cc y nL rt rm l) {x : Int32} {off : Int} {tgt : Nat} (hd : decode cc pc = .ok (.ifCond .eq off, 3)) (ht : (pc : Int) + off = (tgt : Int)) (kt : x = 0 → G X D B h n k sl L tgt st) (kf : ¬ x = 0 → G X D B h n k sl L (pc + 3) st) : G X D B h n k sl L pc (.int x :: st) := by
  obtain ⟨p, l', e, R, s, m, args, below, meth, c, Q⟩ := X
  intro H locs ls hH hS hL
  exact lv_if_eq C.1.1 C.1.2.1 hd ht (fun c => kt (c) H locs ls hH hS hL) (fun c => kf (c) H locs ls hH hS hL)
theorem g_if_ne (C : gX X D B cc y nL rt rm l) {x : Int32} {off : Int} {tgt : Nat} (hd : decode cc pc = .ok (.ifCond .ne off, 3)) (ht : (pc : Int) + off = (tgt : Int)) (kt : ¬ x = 0 → G X D B h n k sl L tgt st) (kf : x = 0 → G X D B h n k sl L (pc + 3) st) : G X D B h n k sl L pc (.int x :: st) := by
  obtain ⟨p, l', e, R, s, m, args, below, meth, c, Q⟩ := X
  intro H locs ls hH hS hL
  exact lv_if_ne C.1.1 C.1.2.1 hd ht (fun c => kt (c) H locs ls hH hS hL) (fun c => kf (c) H locs ls hH hS hL)
theorem g_if_lt (C : gX X D B cc y nL rt rm l) {x : Int32} {off : Int} {tgt : Nat} (hd : decode cc pc = .ok (.ifCond .lt off, 3)) (ht : (pc : Int) + off = (tgt : Int)) (kt : x < 0 → G X D B h n k sl L tgt st) (kf : ¬ x < 0 → G X D B h n k sl L (pc + 3) st) : G X D B h n k sl L pc (.int x :: st) := by
  obtain ⟨p, l', e, R, s, m, args, below, meth, c, Q⟩ := X
  intro H locs ls hH hS hL
  exact lv_if_lt C.1.1 C.1.2.1 hd ht (fun c => kt (c) H locs ls hH hS hL) (fun c => kf (c) H locs ls hH hS hL)
theorem g_if_ge (C : gX X D B cc y nL rt rm l) {x : Int32} {off : Int} {tgt : Nat} (hd : decode cc pc = .ok (.ifCond .ge off, 3)) (ht : (pc : Int) + off = (tgt : Int)) (kt : ¬ x < 0 → G X D B h n k sl L tgt st) (kf : x < 0 → G X D B h n k sl L (pc + 3) st) : G X D B h n k sl L pc (.int x :: st) := by
  obtain ⟨p, l', e, R, s, m, args, below, meth, c, Q⟩ := X
  intro H locs ls hH hS hL
  exact lv_if_ge C.1.1 C.1.2.1 hd ht (fun c => kt (gnlt.mp c) H locs ls hH hS hL) (fun c => kf (Int32.not_le.mp c) H locs ls hH hS hL)
theorem g_if_gt (C : gX X D B cc y nL rt rm l) {x : Int32} {off : Int} {tgt : Nat} (hd : decode cc pc = .ok (.ifCond .gt off, 3)) (ht : (pc : Int) + off = (tgt : Int)) (kt : 0 < x → G X D B h n k sl L tgt st) (kf : ¬ 0 < x → G X D B h n k sl L (pc + 3) st) : G X D B h n k sl L pc (.int x :: st) := by
  obtain ⟨p, l', e, R, s, m, args, below, meth, c, Q⟩ := X
  intro H locs ls hH hS hL
  exact lv_if_gt C.1.1 C.1.2.1 hd ht (fun c => kt (c) H locs ls hH hS hL) (fun c => kf (c) H locs ls hH hS hL)
theorem g_if_le (C : gX X D B cc y nL rt rm l) {x : Int32} {off : Int} {tgt : Nat} (hd : decode cc pc = .ok (.ifCond .le off, 3)) (ht : (pc : Int) + off = (tgt : Int)) (kt : ¬ 0 < x → G X D B h n k sl L tgt st) (kf : 0 < x → G X D B h n k sl L (pc + 3) st) : G X D B h n k sl L pc (.int x :: st) := by
  obtain ⟨p, l', e, R, s, m, args, below, meth, c, Q⟩ := X
  intro H locs ls hH hS hL
  exact lv_if_le C.1.1 C.1.2.1 hd ht (fun c => kt (gnlt.mp c) H locs ls hH hS hL) (fun c => kf (Int32.not_le.mp c) H locs ls hH hS hL)
theorem g_icmp_eq (C : gX X D B cc y nL rt rm l) {x z : Int32} {off : Int} {tgt : Nat} (hd : decode cc pc = .ok (.if_icmp .eq off, 3)) (ht : (pc : Int) + off = (tgt : Int)) (kt : x = z → G X D B h n k sl L tgt st) (kf : ¬ x = z → G X D B h n k sl L (pc + 3) st) : G X D B h n k sl L pc (.int z :: .int x :: st) := by
  obtain ⟨p, l', e, R, s, m, args, below, meth, c, Q⟩ := X
  intro H locs ls hH hS hL
  exact lv_icmp_eq C.1.1 C.1.2.1 hd ht (fun c => kt (c) H locs ls hH hS hL) (fun c => kf (c) H locs ls hH hS hL)
theorem g_icmp_ne (C : gX X D B cc y nL rt rm l) {x z : Int32} {off : Int} {tgt : Nat} (hd : decode cc pc = .ok (.if_icmp .ne off, 3)) (ht : (pc : Int) + off = (tgt : Int)) (kt : ¬ x = z → G X D B h n k sl L tgt st) (kf : x = z → G X D B h n k sl L (pc + 3) st) : G X D B h n k sl L pc (.int z :: .int x :: st) := by
  obtain ⟨p, l', e, R, s, m, args, below, meth, c, Q⟩ := X
  intro H locs ls hH hS hL
  exact lv_icmp_ne C.1.1 C.1.2.1 hd ht (fun c => kt (c) H locs ls hH hS hL) (fun c => kf (c) H locs ls hH hS hL)
theorem g_icmp_lt (C : gX X D B cc y nL rt rm l) {x z : Int32} {off : Int} {tgt : Nat} (hd : decode cc pc = .ok (.if_icmp .lt off, 3)) (ht : (pc : Int) + off = (tgt : Int)) (kt : x < z → G X D B h n k sl L tgt st) (kf : ¬ x < z → G X D B h n k sl L (pc + 3) st) : G X D B h n k sl L pc (.int z :: .int x :: st) := by
  obtain ⟨p, l', e, R, s, m, args, below, meth, c, Q⟩ := X
  intro H locs ls hH hS hL
  exact lv_icmp_lt C.1.1 C.1.2.1 hd ht (fun c => kt (c) H locs ls hH hS hL) (fun c => kf (c) H locs ls hH hS hL)
theorem g_icmp_ge (C : gX X D B cc y nL rt rm l) {x z : Int32} {off : Int} {tgt : Nat} (hd : decode cc pc = .ok (.if_icmp .ge off, 3)) (ht : (pc : Int) + off = (tgt : Int)) (kt : ¬ x < z → G X D B h n k sl L tgt st) (kf : x < z → G X D B h n k sl L (pc + 3) st) : G X D B h n k sl L pc (.int z :: .int x :: st) := by
  obtain ⟨p, l', e, R, s, m, args, below, meth, c, Q⟩ := X
  intro H locs ls hH hS hL
  exact lv_icmp_ge C.1.1 C.1.2.1 hd ht (fun c => kt (gnlt.mp c) H locs ls hH hS hL) (fun c => kf (Int32.not_le.mp c) H locs ls hH hS hL)
theorem g_icmp_gt (C : gX X D B cc y nL rt rm l) {x z : Int32} {off : Int} {tgt : Nat} (hd : decode cc pc = .ok (.if_icmp .gt off, 3)) (ht : (pc : Int) + off = (tgt : Int)) (kt : z < x → G X D B h n k sl L tgt st) (kf : ¬ z < x → G X D B h n k sl L (pc + 3) st) : G X D B h n k sl L pc (.int z :: .int x :: st) := by
  obtain ⟨p, l', e, R, s, m, args, below, meth, c, Q⟩ := X
  intro H locs ls hH hS hL
  exact lv_icmp_gt C.1.1 C.1.2.1 hd ht (fun c => kt (c) H locs ls hH hS hL) (fun c => kf (c) H locs ls hH hS hL)
theorem g_icmp_le (C : gX X D B cc y nL rt rm l) {x z : Int32} {off : Int} {tgt : Nat} (hd : decode cc pc = .ok (.if_icmp .le off, 3)) (ht : (pc : Int) + off = (tgt : Int)) (kt : ¬ z < x → G X D B h n k sl L tgt st) (kf : z < x → G X D B h n k sl L (pc + 3) st) : G X D B h n k sl L pc (.int z :: .int x :: st) := by
  obtain ⟨p, l', e, R, s, m, args, below, meth, c, Q⟩ := X
  intro H locs ls hH hS hL
  exact lv_icmp_le C.1.1 C.1.2.1 hd ht (fun c => kt (gnlt.mp c) H locs ls hH hS hL) (fun c => kf (Int32.not_le.mp c) H locs ls hH hS hL)
theorem g_goto (C : gX X D B cc y nL rt rm l) {off : Int} {tgt : Nat} (hd : decode cc pc = .ok (.goto off, 3)) (ht : (pc : Int) + off = (tgt : Int)) (kk : G X D B h n k sl L tgt st) : G X D B h n k sl L pc st := by
  obtain ⟨p, l', e, R, s, m, args, below, meth, c, Q⟩ := X
  intro H locs ls hH hS hL
  exact lv_goto C.1.1 C.1.2.1 hd ht (kk H locs ls hH hS hL)
theorem g_ifnull (C : gX X D B cc y nL rt rm l) {r : Option Nat} {off : Int} {tgt : Nat} (hd : decode cc pc = .ok (.ifnull off, 3)) (ht : (pc : Int) + off = (tgt : Int)) (kt : r = none → G X D B h n k sl L tgt st) (kf : ∀ a, r = some a → G X D B h n k sl L (pc + 3) st) : G X D B h n k sl L pc (va_rf r :: st) := by
  obtain ⟨p, l', e, R, s, m, args, below, meth, c, Q⟩ := X
  intro H locs ls hH hS hL
  cases r with
  | none => exact lv_ifnullN C.1.1 C.1.2.1 hd ht (kt rfl H locs ls hH hS hL)
  | some a => exact lv_ifnull C.1.1 C.1.2.1 hd (kf a rfl H locs ls hH hS hL)
theorem g_ifnonnull (C : gX X D B cc y nL rt rm l) {r : Option Nat} {off : Int} {tgt : Nat} (hd : decode cc pc = .ok (.ifnonnull off, 3)) (ht : (pc : Int) + off = (tgt : Int)) (kt : ∀ a, r = some a → G X D B h n k sl L tgt st) (kf : r = none → G X D B h n k sl L (pc + 3) st) : G X D B h n k sl L pc (va_rf r :: st) := by
  obtain ⟨p, l', e, R, s, m, args, below, meth, c, Q⟩ := X
  intro H locs ls hH hS hL
  cases r with
  | none => exact lv_ifnonnullN C.1.1 C.1.2.1 hd (kf rfl H locs ls hH hS hL)
  | some a => exact lv_ifnonnull C.1.1 C.1.2.1 hd ht (kt a rfl H locs ls hH hS hL)
theorem gad_inj (hB : B.1 < B.2) {a b : Nat} (e : gad B a = gad B b) : a = b := by
  cases a <;> cases b <;> simp only [gad] at e <;> omega
theorem g_acmp_ne (C : gX X D B cc y nL rt rm l) {r z : Option Nat} {off : Int} {tgt : Nat} (hd : decode cc pc = .ok (.if_acmp .ne off, 3)) (ht : (pc : Int) + off = (tgt : Int)) (kt : ¬ r = z → G X D B h n k sl L tgt st) (kf : r = z → G X D B h n k sl L (pc + 3) st) : G X D B h n k sl L pc (va_rf z :: va_rf r :: st) := by
  obtain ⟨p, l', e, R, s, m, args, below, meth, c, Q⟩ := X
  intro H locs ls hH hS hL
  have e : r.map (gad B) = z.map (gad B) ↔ r = z := by
    constructor
    · intro e
      cases r <;> cases z
      · rfl
      · cases e
      · cases e
      · exact congrArg some (gad_inj hH.2.1 (Option.some.inj e))
    · intro e; rw [e]
  have hs : F0 m pc ls ((va_rf z :: va_rf r :: st).map (gv B)) = F0 m pc ls (va_rf (z.map (gad B)) :: va_rf (r.map (gad B)) :: st.map (gv B)) := by
    rw [List.map_cons, List.map_cons, gv_rf, gv_rf]
  rw [hs]
  exact lv_acmp_ne C.1.1 C.1.2.1 hd ht (fun c => kt (fun q => c (e.mpr q)) H locs ls hH hS hL) (fun c => kf (e.mp c) H locs ls hH hS hL)
theorem g_tableIn (C : gX X D B cc y nL rt rm l) {dflt lo hi : Int} {offs : Array Int} {len : Nat} {x : Int32} {off : Int} {tgt : Nat} (hd : decode cc pc = .ok (.tableswitch dflt lo hi offs, len)) (h1 : ¬ x.toInt < lo) (h2 : ¬ hi < x.toInt) (ho : offs[(x.toInt - lo).toNat]? = some off) (ht : (pc : Int) + off = (tgt : Int)) (kk : G X D B h n k sl L tgt st) : G X D B h n k sl L pc (.int x :: st) := by
  obtain ⟨p, l', e, R, s, m, args, below, meth, c, Q⟩ := X
  intro H locs ls hH hS hL
  exact lv_tableIn C.1.1 C.1.2.1 hd h1 h2 ho ht (kk H locs ls hH hS hL)
theorem g_tableOut (C : gX X D B cc y nL rt rm l) {dflt lo hi : Int} {offs : Array Int} {len : Nat} {x : Int32} {tgt : Nat} (hd : decode cc pc = .ok (.tableswitch dflt lo hi offs, len)) (h1 : x.toInt < lo ∨ hi < x.toInt) (ht : (pc : Int) + dflt = (tgt : Int)) (kk : G X D B h n k sl L tgt st) : G X D B h n k sl L pc (.int x :: st) := by
  obtain ⟨p, l', e, R, s, m, args, below, meth, c, Q⟩ := X
  intro H locs ls hH hS hL
  exact lv_tableOut C.1.1 C.1.2.1 hd h1 ht (kk H locs ls hH hS hL)
theorem g_lookup (C : gX X D B cc y nL rt rm l) {dflt : Int} {ps : Array (Int × Int)} {len : Nat} {x : Int32} {off : Int} {tgt : Nat} (hd : decode cc pc = .ok (.lookupswitch dflt ps, len)) (hp : (ps.toList.zip (ps.toList.drop 1)).all (fun (a, next) => a.1 < next.1) = true) (ho : Op.lookupswitch.offset ps.toList dflt x.toInt = off) (ht : (pc : Int) + off = (tgt : Int)) (kk : G X D B h n k sl L tgt st) : G X D B h n k sl L pc (.int x :: st) := by
  obtain ⟨p, l', e, R, s, m, args, below, meth, c, Q⟩ := X
  intro H locs ls hH hS hL
  exact lv_lookup C.1.1 C.1.2.1 hd hp ho ht (kk H locs ls hH hS hL)
theorem gHw.at {H : Heap} (hH : gHw D B h n H) {a : Nat} {e : gC} (ha : h a = some e) : va_P D.1 gcl [(gad B a, gce D B e)] H := by
  intro j q hq
  match j, hq with
  | 0, hq => cases hq; exact (hH.2.2 a e ha).2.2
  | j + 1, hq => simp at hq
theorem gHw.put {H H1 : Heap} (hH : gHw D B h n H) {a : Nat} {e e' : gC} (ha : h a = some e) (z : H1.size = H.size) (hn : va_at D.1 gcl (gad B a, gce D B e') H1) (o : ∀ q, q ≠ gad B a → H1[q]? = H[q]?) : gHw D B (gup h a e') n H1 := by
  refine ⟨by rw [z]; exact hH.1, hH.2.1, fun j c hj => ?_⟩
  by_cases hja : j = a
  · subst hja
    have hj : some e' = some c := by simpa [gup] using hj
    cases hj
    exact ⟨(hH.2.2 j e ha).1, (hH.2.2 j e ha).2.1, hn⟩
  · have hj : h j = some c := by simpa [gup, hja] using hj
    obtain ⟨h1, h2, h3⟩ := hH.2.2 j c hj
    exact ⟨h1, h2, h3.kept (o _ (fun q => hja (gad_inj hH.2.1 q)))⟩
theorem gHw.push {H H1 : Heap} (hH : gHw D B h n H) {e : gC} (z : H1.size = H.size + 1) (hn : va_at D.1 gcl (gad B (n + 1), gce D B e) H1) (o : ∀ q, q < H.size → H1[q]? = H[q]?) : gHw D B (gup h (n + 1) e) (n + 1) H1 := by
  refine ⟨by rw [z, hH.1]; rfl, hH.2.1, fun j c hj => ?_⟩
  by_cases hja : j = n + 1
  · subst hja
    have hj : some e = some c := by simpa [gup] using hj
    cases hj
    exact ⟨by omega, Nat.le_refl _, hn⟩
  · have hj : h j = some c := by simpa [gup, hja] using hj
    obtain ⟨h1, h2, h3⟩ := hH.2.2 j c hj
    exact ⟨h1, by omega, h3.kept (o _ h3.lt)⟩
theorem gA_of {a : Nat} (h1 : 1 ≤ a) : gA B (gad B a) := by
  obtain ⟨j, rfl⟩ : ∃ j, a = j + 1 := ⟨a - 1, by omega⟩
  exact Nat.le_add_right _ _
theorem g_at_map {fs : List Value} {f : Nat} {v : Value} (hv : fs[f]? = some v) : (fs.map (gv B))[f]? = some (gv B v) := by rw [List.getElem?_map, hv]; rfl
theorem g_same {U : State} {args : Array Value} (hts : ∀ w ∈ lw_all, w.before args U = true) {ref : String} {T : u_T} {f : Nat} (hsame : ref = (T f).1 ∨ Cond.sameField ref (T f).1 (T f).2.1 (T f).2.2.1 ∈ lw_all) : ∀ x, U.fieldFound? (T f).1 (T f).2.1 (T f).2.2.1 = some x → U.fieldFound? ref (T f).2.1 (T f).2.2.1 = some x := by
  rcases hsame with e | e
  · rw [e]; exact fun _ h => h
  · exact u_same (hts _ e)
theorem g_get (C : gX X D B cc y nL rt rm l) {a ci N idx : Nat} {fs : List Value} {ref Cn : String} {T : u_T} {ty : Nat → FieldType} {v : Value} (f : Nat) (hd : decode cc pc = .ok (.getfield idx, 3)) (K : gCls ci Cn T N ty) (ha : h a = some (.inr (ci, fs))) (hf : f < N) (hlink : Cond.fieldLink y.cls idx ref (T f).2.1 (T f).2.2.1 ∈ lw_all) (hsame : ref = (T f).1 ∨ Cond.sameField ref (T f).1 (T f).2.1 (T f).2.2.1 ∈ lw_all) (hv : fs[f]? = some v) (kk : G X D B h n k sl L (pc + 3) (v :: st)) : G X D B h n k sl L pc (.ref a :: st) := by
  obtain ⟨p, l', e, R, s, m, args, below, meth, c, Q⟩ := X
  intro H locs ls hH hS hL
  exact va_get C.1.1 C.1.2.1 C.1.2.2.2.2 K.2.1 C.1.2.2.2.1 C.2.1.1 (hH.at ha) 0 rfl K.1 f hf (C.1.2.2.2.2 _ hlink) (g_same C.1.2.2.2.2 hsame) (g_at_map hv) hd (kk H locs ls hH hS hL)
theorem g_getN (C : gX X D B cc y nL rt rm l) {a ci N idx : Nat} {fs : List Value} {ref Cn host : String} {T : u_T} {ty : Nat → FieldType} {v : Value} (f : Nat) (hd : decode cc pc = .ok (.getfield idx, 3)) (K : gCls ci Cn T N ty) (ha : h a = some (.inr (ci, fs))) (hf : f < N) (hlink : Cond.fieldLinkNest y.cls idx ref (T f).2.1 (T f).2.2.1 host ∈ lw_tbl) (hsame : ref = (T f).1 ∨ Cond.sameField ref (T f).1 (T f).2.1 (T f).2.2.1 ∈ lw_all) (hv : fs[f]? = some v) (kk : G X D B h n k sl L (pc + 3) (v :: st)) : G X D B h n k sl L pc (.ref a :: st) := by
  obtain ⟨p, l', e, R, s, m, args, below, meth, c, Q⟩ := X
  intro H locs ls hH hS hL
  exact va_getN C.1.1 C.1.2.1 C.1.2.2.2.2 K.2.1 C.1.2.2.2.1 C.2.1.1 (hH.at ha) 0 rfl K.1 f hf (va_Nw.use rfl (C.2.1.2.1 _ (gx hlink rfl))) (g_same C.1.2.2.2.2 hsame) (g_at_map hv) hd (kk H locs ls hH hS hL)
theorem g_put (C : gX X D B cc y nL rt rm l) {a ci N idx : Nat} {fs : List Value} {ref Cn : String} {T : u_T} {ty : Nat → FieldType} {v : Value} (f : Nat) (hd : decode cc pc = .ok (.putfield idx, 3)) (K : gCls ci Cn T N ty) (ha : h a = some (.inr (ci, fs))) (hf : f < N) (hlink : Cond.fieldLink y.cls idx ref (T f).2.1 (T f).2.2.1 ∈ lw_all) (hsame : ref = (T f).1 ∨ Cond.sameField ref (T f).1 (T f).2.1 (T f).2.2.1 ∈ lw_all) (hfin : (T f).2.2.2 = false) (hnar : narrow (ty f) (gv B v) = gv B v) (hfit : fits (ty f) (gv B v) = true) (hlen : f < fs.length) (kk : G X D B (gup h a (.inr (ci, fs.set f v))) n k sl L (pc + 3) st) : G X D B h n k sl L pc (v :: .ref a :: st) := by
  obtain ⟨p, l', e, R, s, m, args, below, meth, c, Q⟩ := X
  intro H locs ls hH hS hL
  obtain ⟨r, h1, cell, q1, q2, q3, q4⟩ := (hH.2.2 a _ ha).2.2
  have hts := C.1.2.2.2.2
  have hr : r = (Cn, T, N) := Option.some.inj (h1.symm.trans K.1)
  subst hr
  have hap := va_apart (own := y.cls) hts K.2.1 ty K.2.2.1 K.2.2.2 C.2.1.1 K.1
  obtain ⟨hSl, hfc, kC, hkC, hkind⟩ := C.2.1.1.1 ci _ K.1
  obtain ⟨cf, kf, fi, fd, hi, hsl⟩ := hSl f hf
  have hlay := hts _ (K.2.1 _ (u_in_lay hf))
  unfold u_lay at hlay
  rw [if_neg (by rw [hfin]; decide)] at hlay
  have hst := (u_facts hfc hkC (u_lays hts K.2.1 hf) hi).1
  have h6 := u_store hfc hkC hkind hlay hi (K.2.2.1 f hf) hnar hfit
  refine W.putK C.1.1 C.1.2.1 (f := fd) ⟨C.1.2.2.2.1, hts _ hlink, ⟨_, _, _, g_same hts hsame _ hi⟩, hst⟩ (by rw [q2]; exact h6) q1 q3 (by rw [hsl]; exact k2_hasslot (q4 f hf)) rfl rfl hd fun H' e1 e2 e3 => ?_
  rw [hsl] at e1 ⊢
  refine kk H' _ ls (hH.put ha e2 ⟨_, K.1, t_OB.to (V := updV (vp_V (fs.map (gv B))) f (gv B v)) ⟨_, e1, q2, q3, t_set q4 hap hf (gv B v)⟩ (fun j _ => ?_)⟩ e3) (hS.put e2 e3 (gA_of (hH.2.2 a _ ha).1)) hL
  show updV (vp_V (fs.map (gv B))) f (gv B v) j = vp_V ((fs.set f v).map (gv B)) j
  rw [List.map_set]
  exact vp_updV_set (by simpa using hlen) (gv B v) j
theorem g_putN (C : gX X D B cc y nL rt rm l) {a ci N idx : Nat} {fs : List Value} {ref Cn host : String} {T : u_T} {ty : Nat → FieldType} {v : Value} (f : Nat) (hd : decode cc pc = .ok (.putfield idx, 3)) (K : gCls ci Cn T N ty) (ha : h a = some (.inr (ci, fs))) (hf : f < N) (hlink : Cond.fieldLinkNest y.cls idx ref (T f).2.1 (T f).2.2.1 host ∈ lw_tbl) (hsame : ref = (T f).1 ∨ Cond.sameField ref (T f).1 (T f).2.1 (T f).2.2.1 ∈ lw_all) (hfin : (T f).2.2.2 = false) (hnar : narrow (ty f) (gv B v) = gv B v) (hfit : fits (ty f) (gv B v) = true) (hlen : f < fs.length) (kk : G X D B (gup h a (.inr (ci, fs.set f v))) n k sl L (pc + 3) st) : G X D B h n k sl L pc (v :: .ref a :: st) := by
  obtain ⟨p, l', e, R, s, m, args, below, meth, c, Q⟩ := X
  intro H locs ls hH hS hL
  obtain ⟨r, h1, cell, q1, q2, q3, q4⟩ := (hH.2.2 a _ ha).2.2
  have hts := C.1.2.2.2.2
  have hr : r = (Cn, T, N) := Option.some.inj (h1.symm.trans K.1)
  subst hr
  have hap := va_apart (own := y.cls) hts K.2.1 ty K.2.2.1 K.2.2.2 C.2.1.1 K.1
  obtain ⟨hSl, hfc, kC, hkC, hkind⟩ := C.2.1.1.1 ci _ K.1
  obtain ⟨cf, kf, fi, fd, hi, hsl⟩ := hSl f hf
  have hlay := hts _ (K.2.1 _ (u_in_lay hf))
  unfold u_lay at hlay
  rw [if_neg (by rw [hfin]; decide)] at hlay
  have hst := (u_facts hfc hkC (u_lays hts K.2.1 hf) hi).1
  have h6 := u_store hfc hkC hkind hlay hi (K.2.2.1 f hf) hnar hfit
  refine va_WputK C.1.1 C.1.2.1 (f := fd) C.1.2.2.2.1 (va_Nw.use rfl (C.2.1.2.1 _ (gx hlink rfl))) (g_same hts hsame _ hi) hst (by rw [q2]; exact h6) q1 q3 (by rw [hsl]; exact k2_hasslot (q4 f hf)) rfl rfl hd fun H' e1 e2 e3 => ?_
  rw [hsl] at e1 ⊢
  refine kk H' _ ls (hH.put ha e2 ⟨_, K.1, t_OB.to (V := updV (vp_V (fs.map (gv B))) f (gv B v)) ⟨_, e1, q2, q3, t_set q4 hap hf (gv B v)⟩ (fun j _ => ?_)⟩ e3) (hS.put e2 e3 (gA_of (hH.2.2 a _ ha).1)) hL
  show updV (vp_V (fs.map (gv B))) f (gv B v) j = vp_V ((fs.set f v).map (gv B)) j
  rw [List.map_set]
  exact vp_updV_set (by simpa using hlen) (gv B v) j
theorem g_putF (C : gX X D B cc y nL rt rm l) {a ci N idx : Nat} {fs : List Value} {ref Cn : String} {T : u_T} {ty : Nat → FieldType} {v : Value} (f : Nat) (hd : decode cc pc = .ok (.putfield idx, 3)) (K : gCls ci Cn T N ty) (ha : h a = some (.inr (ci, fs))) (hf : f < N) (hlink : Cond.fieldLink y.cls idx ref (T f).2.1 (T f).2.2.1 ∈ lw_all) (hsame : ref = (T f).1 ∨ Cond.sameField ref (T f).1 (T f).2.1 (T f).2.2.1 ∈ lw_all) (hfin : (T f).2.2.2 = true) (hin2 : y.name = "<init>") (hdecl : (T f).1 = y.cls) (hnar : narrow (ty f) (gv B v) = gv B v) (hfit : fits (ty f) (gv B v) = true) (hlen : f < fs.length) (kk : G X D B (gup h a (.inr (ci, fs.set f v))) n k sl L (pc + 3) st) : G X D B h n k sl L pc (v :: .ref a :: st) := by
  obtain ⟨p, l', e, R, s, m, args, below, meth, c, Q⟩ := X
  intro H locs ls hH hS hL
  obtain ⟨r, h1, cell, q1, q2, q3, q4⟩ := (hH.2.2 a _ ha).2.2
  have hts := C.1.2.2.2.2
  have hr : r = (Cn, T, N) := Option.some.inj (h1.symm.trans K.1)
  subst hr
  have hap := va_apart (own := y.cls) hts K.2.1 ty K.2.2.1 K.2.2.2 C.2.1.1 K.1
  obtain ⟨hSl, hfc, kC, hkC, hkind⟩ := C.2.1.1.1 ci _ K.1
  obtain ⟨cf, kf, fi, fd, hi, hsl⟩ := hSl f hf
  have hlay := hts _ (K.2.1 _ (u_in_lay hf))
  unfold u_lay at hlay
  rw [if_pos hfin] at hlay
  have hst := (u_facts hfc hkC (u_lays hts K.2.1 hf) hi).1
  have hcf : m.cls = cf := by
    obtain ⟨_, _, c', _, _, _, -, -, hf', -, -, -, hown2, -⟩ := Cond.laysFinal_spec hlay
    have e1 : c' = cf := by have := hi.symm.trans hf'; simp at this; exact this.1.symm
    rw [hdecl] at hown2
    rw [← e1]; exact Option.some.inj (C.1.2.2.2.1.symm.trans hown2)
  have h6 := u_fits hfc hkC hkind (Or.inr hlay) hi (K.2.2.1 f hf) hnar hfit
  refine W.putFinK C.1.1 C.1.2.1 C.1.2.2.2.1 (hts _ hlink) (g_same hts hsame _ hi) hst hcf (C.2.2.2.2.2.2.2.trans hin2) (by rw [q2]; exact h6) q1 q3 (by rw [hsl]; exact k2_hasslot (q4 f hf)) rfl rfl hd fun H' e1 e2 e3 => ?_
  rw [hsl] at e1 ⊢
  refine kk H' _ ls (hH.put ha e2 ⟨_, K.1, t_OB.to (V := updV (vp_V (fs.map (gv B))) f (gv B v)) ⟨_, e1, q2, q3, t_set q4 hap hf (gv B v)⟩ (fun j _ => ?_)⟩ e3) (hS.put e2 e3 (gA_of (hH.2.2 a _ ha).1)) hL
  show updV (vp_V (fs.map (gv B))) f (gv B v) j = vp_V ((fs.set f v).map (gv B)) j
  rw [List.map_set]
  exact vp_updV_set (by simpa using hlen) (gv B v) j
theorem g_iald (C : gX X D B cc y nL rt rm l) {a N : Nat} {f : Nat → Int32} {i : Int32} (hd : decode cc pc = .ok (.iaload, 1)) (ha : h a = some (.inl (0, N, gai f))) (hin : vp_in i N) (kk : G X D B h n k sl L (pc + 1) (.int (f i.toNatClampNeg) :: st)) : G X D B h n k sl L pc (.int i :: .ref a :: st) := by
  obtain ⟨p, l', e, R, s, m, args, below, meth, c, Q⟩ := X
  intro H locs ls hH hS hL
  exact va_iald C.1.1 C.1.2.1 C.2.1.1 (hH.at ha) 0 0 rfl rfl hin hd (kk H locs ls hH hS hL)
theorem g_bald (C : gX X D B cc y nL rt rm l) {a N : Nat} {f : Nat → Int32} {i : Int32} (hd : decode cc pc = .ok (.baload, 1)) (ha : h a = some (.inl (1, N, gai f))) (hin : vp_in i N) (kk : G X D B h n k sl L (pc + 1) (.int (f i.toNatClampNeg) :: st)) : G X D B h n k sl L pc (.int i :: .ref a :: st) := by
  obtain ⟨p, l', e, R, s, m, args, below, meth, c, Q⟩ := X
  intro H locs ls hH hS hL
  exact va_bald C.1.1 C.1.2.1 C.2.1.1 (hH.at ha) 0 1 rfl rfl hin hd (kk H locs ls hH hS hL)
theorem g_zald (C : gX X D B cc y nL rt rm l) {a N : Nat} {f : Nat → Int32} {i : Int32} (hd : decode cc pc = .ok (.baload, 1)) (ha : h a = some (.inl (2, N, gai f))) (hin : vp_in i N) (kk : G X D B h n k sl L (pc + 1) (.int (f i.toNatClampNeg) :: st)) : G X D B h n k sl L pc (.int i :: .ref a :: st) := by
  obtain ⟨p, l', e, R, s, m, args, below, meth, c, Q⟩ := X
  intro H locs ls hH hS hL
  exact va_zald C.1.1 C.1.2.1 C.2.1.1 (hH.at ha) 0 2 rfl rfl hin hd (kk H locs ls hH hS hL)
theorem g_lald (C : gX X D B cc y nL rt rm l) {a N : Nat} {f : Nat → Int64} {i : Int32} (hd : decode cc pc = .ok (.laload, 1)) (ha : h a = some (.inl (3, N, gal f))) (hin : vp_in i N) (kk : G X D B h n k sl L (pc + 1) (.long (f i.toNatClampNeg) :: st)) : G X D B h n k sl L pc (.int i :: .ref a :: st) := by
  obtain ⟨p, l', e, R, s, m, args, below, meth, c, Q⟩ := X
  intro H locs ls hH hS hL
  exact va_lald C.1.1 C.1.2.1 C.2.1.1 (hH.at ha) 0 3 rfl rfl hin hd (kk H locs ls hH hS hL)
theorem g_aald (C : gX X D B cc y nL rt rm l) {a N t : Nat} {Cn : String} {f : Nat → Option Nat} {i : Int32} (hd : decode cc pc = .ok (.aaload, 1)) (ht : (gtys D)[t]? = some (D.2 t, .object Cn)) (ha : h a = some (.inl (t, N, gaq f))) (hin : vp_in i N) (kk : G X D B h n k sl L (pc + 1) (va_rf (f i.toNatClampNeg) :: st)) : G X D B h n k sl L pc (.int i :: .ref a :: st) := by
  obtain ⟨p, l', e, R, s, m, args, below, meth, c, Q⟩ := X
  intro H locs ls hH hS hL
  have kk := kk H locs ls hH hS hL
  rw [List.map_cons, gv_rf] at kk
  exact va_aldq C.1.1 C.1.2.1 C.2.1.1 (hH.at ha) 0 t rfl ht hin hd kk
theorem g_alen (C : gX X D B cc y nL rt rm l) {a t : Nat} {ty : FieldType} {x : vp_A} (hd : decode cc pc = .ok (.arraylength, 1)) (ht : (gtys D)[t]? = some (D.2 t, ty)) (ha : h a = some (.inl (t, x))) (kk : G X D B h n k sl L (pc + 1) (.int (Int32.ofNat x.1) :: st)) : G X D B h n k sl L pc (.ref a :: st) := by
  obtain ⟨p, l', e, R, s, m, args, below, meth, c, Q⟩ := X
  intro H locs ls hH hS hL
  exact va_alen C.1.1 C.1.2.1 C.2.1.1 (hH.at ha) 0 t rfl ht rfl hd (kk H locs ls hH hS hL)
def nb (x : Int32) : Int32 := if x = 0 then 0 else 1
def n8 (x : Int32) : Int32 := x.toInt8.toInt32
theorem g_iast (C : gX X D B cc y nL rt rm l) {a N : Nat} {f : Nat → Int32} {i x : Int32} (hd : decode cc pc = .ok (.iastore, 1)) (ha : h a = some (.inl (0, N, gai f))) (hin : vp_in i N) (kk : G X D B (gup h a (.inl (0, N, gai (upd f i.toNatClampNeg (x))))) n k sl L (pc + 1) st) : G X D B h n k sl L pc (.int x :: .int i :: .ref a :: st) := by
  obtain ⟨p, l', e, R, s, m, args, below, meth, c, Q⟩ := X
  intro H locs ls hH hS hL
  refine W.iast C.1.1 C.1.2.1 (cell := vp_cell (D.2 0) (N, .inl f)) ((hH.at ha) 0 _ rfl) ((C.2.1.1.2 0 _ rfl).1 N (fun j => .int (f j))) (fun q => by cases q) (by show ¬ (i < 0 ∨ (arrV _ _ _).slots.size ≤ _); rw [arrV_size]; exact hin) rfl rfl hd fun H1 e z oq => ?_
  refine kk H1 _ ls (hH.put ha z ?_ oq) (hS.put z oq (gA_of (hH.2.2 a _ ha).1)) hL
  show H1[gad B a]? = some (vp_cell (D.2 0) (N, .inl _))
  rw [e]
  rw [vp_cell_i, vp_cell_i, arrV_store]
  congr 2
  funext q
  by_cases hq : q = i.toNatClampNeg
  · subst hq
    simp [updV, upd, vp_nar]
    try rfl
  · simp [updV, upd, hq]
theorem g_bast (C : gX X D B cc y nL rt rm l) {a N : Nat} {f : Nat → Int32} {i x : Int32} (hd : decode cc pc = .ok (.bastore, 1)) (ha : h a = some (.inl (1, N, gai f))) (hin : vp_in i N) (kk : G X D B (gup h a (.inl (1, N, gai (upd f i.toNatClampNeg (vp_nar .byte x))))) n k sl L (pc + 1) st) : G X D B h n k sl L pc (.int x :: .int i :: .ref a :: st) := by
  obtain ⟨p, l', e, R, s, m, args, below, meth, c, Q⟩ := X
  intro H locs ls hH hS hL
  refine W.bast C.1.1 C.1.2.1 (cell := vp_cell (D.2 1) (N, .inl f)) ((hH.at ha) 0 _ rfl) ((C.2.1.1.2 1 _ rfl).1 N (fun j => .int (f j))) (fun q => by cases q) (by show ¬ (i < 0 ∨ (arrV _ _ _).slots.size ≤ _); rw [arrV_size]; exact hin) rfl rfl hd fun H1 e z oq => ?_
  refine kk H1 _ ls (hH.put ha z ?_ oq) (hS.put z oq (gA_of (hH.2.2 a _ ha).1)) hL
  show H1[gad B a]? = some (vp_cell (D.2 1) (N, .inl _))
  rw [e]
  rw [vp_cell_i, vp_cell_i, arrV_store]
  congr 2
  funext q
  by_cases hq : q = i.toNatClampNeg
  · subst hq
    simp [updV, upd, vp_nar]
    try rfl
  · simp [updV, upd, hq]
theorem g_zast (C : gX X D B cc y nL rt rm l) {a N : Nat} {f : Nat → Int32} {i x : Int32} (hd : decode cc pc = .ok (.bastore, 1)) (ha : h a = some (.inl (2, N, gai f))) (hin : vp_in i N) (kk : G X D B (gup h a (.inl (2, N, gai (upd f i.toNatClampNeg (vp_nar .boolean x))))) n k sl L (pc + 1) st) : G X D B h n k sl L pc (.int x :: .int i :: .ref a :: st) := by
  obtain ⟨p, l', e, R, s, m, args, below, meth, c, Q⟩ := X
  intro H locs ls hH hS hL
  refine W.zast C.1.1 C.1.2.1 (cell := vp_cell (D.2 2) (N, .inl f)) ((hH.at ha) 0 _ rfl) ((C.2.1.1.2 2 _ rfl).1 N (fun j => .int (f j))) (fun q => by cases q) (by show ¬ (i < 0 ∨ (arrV _ _ _).slots.size ≤ _); rw [arrV_size]; exact hin) rfl rfl hd fun H1 e z oq => ?_
  refine kk H1 _ ls (hH.put ha z ?_ oq) (hS.put z oq (gA_of (hH.2.2 a _ ha).1)) hL
  show H1[gad B a]? = some (vp_cell (D.2 2) (N, .inl _))
  rw [e]
  rw [vp_cell_i, vp_cell_i, arrV_store]
  congr 2
  funext q
  by_cases hq : q = i.toNatClampNeg
  · subst hq
    simp [updV, upd, vp_nar]
    try rfl
  · simp [updV, upd, hq]
theorem g_last (C : gX X D B cc y nL rt rm l) {a N : Nat} {f : Nat → Int64} {i : Int32} {x : Int64} (hd : decode cc pc = .ok (.lastore, 1)) (ha : h a = some (.inl (3, N, gal f))) (hin : vp_in i N) (kk : G X D B (gup h a (.inl (3, N, gal (vp_updL f i.toNatClampNeg x)))) n k sl L (pc + 1) st) : G X D B h n k sl L pc (.long x :: .int i :: .ref a :: st) := by
  obtain ⟨p, l', e, R, s, m, args, below, meth, c, Q⟩ := X
  intro H locs ls hH hS hL
  refine W.last C.1.1 C.1.2.1 (cell := vp_cell (D.2 3) (N, .inr (.inl f))) ((hH.at ha) 0 _ rfl) ((C.2.1.1.2 3 _ rfl).1 N (fun j => .long (f j))) (fun q => by cases q) (by show ¬ (i < 0 ∨ (arrV _ _ _).slots.size ≤ _); rw [arrV_size]; exact hin) rfl rfl hd fun H1 e z oq => ?_
  refine kk H1 _ ls (hH.put ha z ?_ oq) (hS.put z oq (gA_of (hH.2.2 a _ ha).1)) hL
  show H1[gad B a]? = some (vp_cell (D.2 3) (N, .inr (.inl _)))
  rw [e]
  rw [vp_cell_l, vp_cell_l, arrV_store]
  congr 2
  funext q
  by_cases hq : q = i.toNatClampNeg
  · subst hq
    simp [updV, vp_updL]
  · simp [updV, vp_updL, hq]
/-- an object of class C0 may lie in an array of E -/
def gcan (C0 E : String) : Prop := C0 = E ∨ Cond.castable C0 E ∈ lw_tbl
theorem g_aast (C : gX X D B cc y nL rt rm l) {a N t v ci : Nat} {E : String} {r : vw_C} {fs : List Value} {f : Nat → Option Nat} {i : Int32} (hd : decode cc pc = .ok (.aastore, 1)) (ht : (gtys D)[t]? = some (D.2 t, .object E)) (ha : h a = some (.inl (t, N, gaq f))) (hv : h v = some (.inr (ci, fs))) (hc : gcl[ci]? = some r) (hcan : gcan r.1 E) (hin : vp_in i N) (kk : G X D B (gup h a (.inl (t, N, gaq (va_up f i.toNatClampNeg (some v))))) n k sl L (pc + 1) st) : G X D B h n k sl L pc (.ref v :: .int i :: .ref a :: st) := by
  obtain ⟨p, l', e, R, s, m, args, below, meth, c, Q⟩ := X
  intro H locs ls hH hS hL
  have hr : va_Any E s H (gad B v) := va_rAny C.2.1.1 (hH.at hv) (q0 := 0) rfl hc (fun comp c0 h1 h2 => by
    rcases hcan with e | e
    · rw [e] at h2
      rw [h1] at h2
      cases h2
      exact va_assign (by have := (C.2.1.1.1 ci r hc).2; rw [e] at this; have e2 := this.1; rw [h1] at e2; cases e2; exact this)
    · obtain ⟨c0', t0, f1, f2, f3⟩ := Cond.castable_spec (va_Nw.use (A := args) rfl (C.2.1.2.1 _ (gx e rfl)))
      rw [h2] at f1
      rw [h1] at f2
      cases f1
      cases f2
      exact f3)
  have hP := hH.at ha
  have hlt : i.toNatClampNeg < N := Nat.not_le.mp fun q => hin (Or.inr q)
  have h0 : ¬ i < 0 := fun q => hin (Or.inl q)
  obtain ⟨cellV, g1, g3, ⟨kC, hkC⟩, hasg⟩ := hr
  obtain ⟨kA, comp, k1, k2, k3, -⟩ := (C.2.1.1.2 t _ ht).2
  obtain ⟨kE, hkE, -⟩ := Vm.findClass_spec k3
  refine W.aast C.1.1 C.1.2.1 (cell := vp_cell (D.2 t) (N, .inr (.inr (.inr (.inr (fun j => (f j).map (gad B))))))) (hP 0 _ rfl) (fun q h => by cases h) (fun h => by cases h) k1 k2 rfl hkE ⟨h0, by show _ < (arrV _ _ _).slots.size; rw [arrV_size]; exact hlt⟩ g1 (fun q h => by rw [h] at g3; cases g3) hkC (hasg _ k3) rfl rfl hd fun H1 e z oq => ?_
  refine kk H1 _ ls (hH.put ha z ?_ oq) (hS.put z oq (gA_of (hH.2.2 a _ ha).1)) hL
  show H1[gad B a]? = some (vp_cell (D.2 t) (N, .inr (.inr (.inr (.inr _)))))
  rw [e]
  rw [vp_cell_q, vp_cell_q, arrV_store]
  congr 2
  funext q
  by_cases hq : q = i.toNatClampNeg
  · subst hq
    simp [updV, va_up, va_rf]
  · simp [updV, va_up, hq]
theorem g_newarr (C : gX X D B cc y nL rt rm l) {at' : ArrayType} {ty : FieldType} {t N : Nat} {x : Int32} {a0 : (Nat → Int32) ⊕ (Nat → Int64) ⊕ (Nat → UInt32) ⊕ (Nat → UInt64) ⊕ (Nat → Option Nat)} (hd : decode cc pc = .ok (.newarray at', 2)) (hty : newarray.typeOf at' = ty) (ht : (gtys D)[t]? = some (D.2 t, ty)) (hpr : ∀ U cA, va_RA U cA ty ↔ U.vm.findClass ("[" ++ ty.toString) = some cA) (hw : Cond.arrayClass (newarray.typeOf at') ∈ lw_all) (hn : ¬ x < 0) (hN : x.toNatClampNeg = N) (hby : N * componentBytes ty ≤ 536870912) (ha0 : ∀ cA : ClassId, vp_cell cA (N, gac B a0) = arrV cA N (fun _ => defaultValue ty)) (hk : k + 1 ≤ rm.cells) (hs : sl + N ≤ rm.slots) (kk : G X D B (gup h (n + 1) (.inl (t, N, a0))) (n + 1) (k + 1) (sl + N) L (pc + 2) (.ref (n + 1) :: st)) : G X D B h n k sl L pc (.int x :: st) := by
  obtain ⟨p, l', e, R, s, m, args, below, meth, c, Q⟩ := X
  intro H locs ls hH hS hL
  have e0 : R = rm := C.2.2.2.2.2.1
  subst e0
  subst hty
  refine va_newaK C.1.1 C.1.2.1 (C.1.2.2.2.2 _ hw) rfl hd rfl hn hN hby hk hs rfl fun H1 cA e1 z1 o1 hAr hNm => ?_
  have hc : cA = D.2 t := Option.some.inj (hNm.symm.trans ((hpr _ _).mp (C.2.1.1.2 t _ ht).2))
  subst hc
  have h1 := kk H1 locs ls (hH.push z1 (by
    show H1[gad B (n + 1)]? = some (vp_cell (D.2 t) (N, gac B a0))
    rw [ha0]
    show H1[B.2 + n]? = _
    rw [← hH.1]
    exact e1) o1) ⟨Nat.le_trans hS.1 (by omega), fun q h1 h2 => (o1 q (Nat.lt_of_lt_of_le h1 hS.1)).trans (hS.2.1 q h1 h2), hS.2.2⟩ hL
  rw [hH.1]
  exact h1
theorem g_anew (C : gX X D B cc y nL rt rm l) {Cn : String} {t N idx : Nat} {x : Int32} (hd : decode cc pc = .ok (.anewarray idx, 3)) (hlink : Cond.classLink y.cls idx Cn ∈ lw_all) (hov : Cn ∈ gover) (ht : (gtys D)[t]? = some (D.2 t, .object Cn)) (hn : ¬ x < 0) (hN : x.toNatClampNeg = N) (hby : N * 4 ≤ 536870912) (hk : k + 1 ≤ rm.cells) (hs : sl + N ≤ rm.slots) (kk : G X D B (gup h (n + 1) (.inl (t, N, gaq (fun _ => none)))) (n + 1) (k + 1) (sl + N) L (pc + 3) (.ref (n + 1) :: st)) : G X D B h n k sl L pc (.int x :: st) := by
  obtain ⟨p, l', e, R, s, m, args, below, meth, c, Q⟩ := X
  intro H locs ls hH hS hL
  have e0 : R = rm := C.2.2.2.2.2.1
  subst e0
  subst hN
  refine W.anew C.1.1 C.1.2.1 C.1.2.2.2.1 (C.1.2.2.2.2 _ hlink) (va_AO.use (C.2.1.2.2.1 _ hov)) rfl hd rfl hn hby hk hs fun cA kA comp f1 f2 f3 f4 => ?_
  obtain ⟨kA', comp', k1, k2, k3, k4⟩ := (C.2.1.1.2 t _ ht).2
  have hc : cA = D.2 t := Option.some.inj (f1.symm.trans k4)
  subst hc
  generalize hH1 : H.push ({ cls := D.2 t, slots := Array.replicate x.toNatClampNeg .null, vm := .none } : Cell) = H1
  have z1 : H1.size = H.size + 1 := by rw [← hH1, Array.size_push]
  have e1 : H1[H.size]? = some (arrV (D.2 t) x.toNatClampNeg (fun _ => .null)) := by rw [← hH1, Array.getElem?_push_size, ← arrV_new]
  have o1 : ∀ q : Nat, q < H.size → H1[q]? = H[q]? := fun q hq => by rw [← hH1, Array.getElem?_push, if_neg (Nat.ne_of_lt hq)]
  have h1 := kk H1 locs ls (hH.push z1 (by
    show H1[B.2 + n]? = some (vp_cell (D.2 t) (x.toNatClampNeg, .inr (.inr (.inr (.inr (fun j => (none : Option Nat).map (gad B)))))))
    rw [← hH.1, vp_cell_q]
    exact e1) o1) ⟨Nat.le_trans hS.1 (by omega), fun q h1 h2 => (o1 q (Nat.lt_of_lt_of_le h1 hS.1)).trans (hS.2.1 q h1 h2), hS.2.2⟩ hL
  rw [hH.1]
  exact h1
theorem g_new (C : gX X D B cc y nL rt rm l) {Cn : String} {T : u_T} {ty : Nat → FieldType} {N ci idx : Nat} {fs : List Value} (hd : decode cc pc = .ok (.new idx, 3)) (K : gCls ci Cn T N ty) (hlink : Cond.classLink y.cls idx Cn ∈ lw_all) (hinst : Cond.instantiable Cn N ∈ lw_all) (hini : Cond.initialized Cn ∈ lw_all) (hfs : ∀ j, j < N → defaultValue (ty j) = vp_V (fs.map (gv B)) j) (hk : k + 1 ≤ rm.cells) (hs : sl + N ≤ rm.slots) (kk : G X D B (gup h (n + 1) (.inr (ci, fs))) (n + 1) (k + 1) (sl + N) L (pc + 3) (.ref (n + 1) :: st)) : G X D B h n k sl L pc st := by
  obtain ⟨p, l', e, R, s, m, args, below, meth, c, Q⟩ := X
  intro H locs ls hH hS hL
  have e0 : R = rm := C.2.2.2.2.2.1
  subst e0
  have hts := C.1.2.2.2.2
  have hKn := C.2.1.1.1 ci _ K.1
  refine W.newcK C.1.1 C.1.2.1 C.1.2.2.2.1 (hts _ hlink) (hts _ hinst) (hts _ hini) rfl hd hk hs hKn.2.1 rfl fun H1 kC hkC e1 z1 o1 => ?_
  have e2 : H.size = gad B (n + 1) := hH.1
  rw [e2] at e1 ⊢
  exact kk H1 locs ls (hH.push z1 ⟨_, K.1, (u_born ty hts K.2.1 hKn hkC e1 K.2.2.1).to hfs⟩ o1) ⟨Nat.le_trans hS.1 (by omega), fun q h1 h2 => (o1 q (Nat.lt_of_lt_of_le h1 hS.1)).trans (hS.2.1 q h1 h2), hS.2.2⟩ hL
theorem g_recv (C : gX X D B cc y nL rt rm l) {H : Heap} (hH : gHw D B h n H) {a ci : Nat} {r : vw_C} {fs : List Value} (ha : h a = some (.inr (ci, fs))) (hc : gcl[ci]? = some r) : ∃ cell : Cell, H[gad B a]? = some cell ∧ cell.vm.isStatics = false ∧ X.2.2.2.2.1.vm.findClass r.1 = some cell.cls := by
  obtain ⟨p, l', e, R, s, m, args, below, meth, c, Q⟩ := X
  exact va_recv C.2.1.1 (hH.at ha) hc (q0 := 0) rfl
theorem g_objInit (C : gX X D B cc y nL rt rm l) {a idx : Nat} (hd : decode cc pc = .ok (.invokespecial idx, 3)) (h1 : Cond.methodLink y.cls idx objectInit ∈ lw_all) (h2 : Cond.instanceMethod objectInit ∈ lw_all) (h3 : Cond.code objectInit ⟨#[0xb1]⟩ 1 none ∈ lw_all) (hf : 1 ≤ rm.frames) (hlo : (st.map fun v => v.category).sum + 12 ≤ rm.locals) (kk : G X D B h n k sl L (pc + 3) st) : G X D B h n k sl L pc (.ref a :: st) := by
  obtain ⟨p, l', e, R, s, m, args, below, meth, c, Q⟩ := X
  intro H locs ls hH hS hL
  have e0 : R = rm := C.2.2.2.2.2.1
  subst e0
  have hts := C.1.2.2.2.2
  have hm : ((st.map (gv B)).map fun v => v.category) = st.map fun v => v.category := by
    rw [List.map_map]; congr 1; funext v; exact gv_cat B v
  exact W.objInit C.1.1 C.1.2.1 C.1.2.2.2.1 (hts _ h1) (hts _ h2) (hts _ h3) rfl hL.1 rfl hd hf (by rw [hm]; show 2 * 0 + _ + 12 ≤ _; omega) (kk H locs ls hH hS hL)
theorem g_iret (C : gX X D B cc y nL (some .int) rm l) {Q : Option Value → gHp → Nat → Prop} {mc ms : Nat} {v : Int32} (hQ : gQ X D B Q mc ms) (hd : decode cc pc = .ok (.ireturn, 1)) (hk : k ≤ mc) (hs : sl ≤ ms) (hv : Q (some (.int v)) h n) : G X D B h n k sl L pc [.int v] := by
  obtain ⟨p, l', e, R, s, m, args, below, meth, c, Q'⟩ := X
  intro H locs ls hH hS hL
  have hQ : Q' = MQ below (gPost D B Q) args s mc ms (gA B) := hQ
  subst hQ
  exact W.widen hk hs (W.iret C.1.1 C.1.2.1 C.2.2.2.2.1 (fun t ht hW => ⟨⟨(some (.int v)), h, n, rfl, hv, by rw [ht]; exact hH⟩, hS.F ht⟩) hS.2.2 hd C.2.2.1)
theorem g_zret {ty : FieldType} (C : gX X D B cc y nL (some ty) rm l) {Q : Option Value → gHp → Nat → Prop} {mc ms : Nat} {v : Int32} (hn : narrow ty (.int v) = .int v) (hQ : gQ X D B Q mc ms) (hd : decode cc pc = .ok (.ireturn, 1)) (hk : k ≤ mc) (hs : sl ≤ ms) (hv : Q (some (.int v)) h n) : G X D B h n k sl L pc [.int v] := by
  obtain ⟨p, l', e, R, s, m, args, below, meth, c, Q'⟩ := X
  intro H locs ls hH hS hL
  have hQ : Q' = MQ below (gPost D B Q) args s mc ms (gA B) := hQ
  subst hQ
  exact W.widen hk hs (W.zret C.1.1 C.1.2.1 C.2.2.2.2.1 hn (fun t ht hW => ⟨⟨(some (.int v)), h, n, rfl, hv, by rw [ht]; exact hH⟩, hS.F ht⟩) hS.2.2 hd C.2.2.1)
theorem g_lret (C : gX X D B cc y nL (some .long) rm l) {Q : Option Value → gHp → Nat → Prop} {mc ms : Nat} {v : Int64} (hQ : gQ X D B Q mc ms) (hd : decode cc pc = .ok (.lreturn, 1)) (hk : k ≤ mc) (hs : sl ≤ ms) (hv : Q (some (.long v)) h n) : G X D B h n k sl L pc [.long v] := by
  obtain ⟨p, l', e, R, s, m, args, below, meth, c, Q'⟩ := X
  intro H locs ls hH hS hL
  have hQ : Q' = MQ below (gPost D B Q) args s mc ms (gA B) := hQ
  subst hQ
  exact W.widen hk hs (W.lret C.1.1 C.1.2.1 C.2.2.2.2.1 (fun t ht hW => ⟨⟨(some (.long v)), h, n, rfl, hv, by rw [ht]; exact hH⟩, hS.F ht⟩) hS.2.2 hd C.2.2.1)
theorem g_vret (C : gX X D B cc y nL none rm l) {Q : Option Value → gHp → Nat → Prop} {mc ms : Nat} (hQ : gQ X D B Q mc ms) (hd : decode cc pc = .ok (.return_, 1)) (hk : k ≤ mc) (hs : sl ≤ ms) (hv : Q none h n) : G X D B h n k sl L pc [] := by
  obtain ⟨p, l', e, R, s, m, args, below, meth, c, Q'⟩ := X
  intro H locs ls hH hS hL
  have hQ : Q' = MQ below (gPost D B Q) args s mc ms (gA B) := hQ
  subst hQ
  exact W.widen hk hs (W.vret C.1.1 C.1.2.1 C.2.2.2.2.1 (fun t ht hW => ⟨⟨none, h, n, rfl, hv, by rw [ht]; exact hH⟩, hS.F ht⟩) hS.2.2 hd C.2.2.1)
theorem g_aret {rty : FieldType} (C : gX X D B cc y nL (some rty) rm l) {Q : Option Value → gHp → Nat → Prop} {mc ms : Nat} {v : Value} (hr : gir v = true) (hrt : (∃ z, rty = .object z) ∨ ∃ t, rty = .array t) (hQ : gQ X D B Q mc ms) (hd : decode cc pc = .ok (.areturn, 1)) (hk : k ≤ mc) (hs : sl ≤ ms) (hv : Q (some v) h n) : G X D B h n k sl L pc [v] := by
  obtain ⟨p, l', e, R, s, m, args, below, meth, c, Q'⟩ := X
  intro H locs ls hH hS hL
  have hQ : Q' = MQ below (gPost D B Q) args s mc ms (gA B) := hQ
  subst hQ
  exact W.widen hk hs (W.aret C.1.1 C.1.2.1 C.2.2.2.2.1 hrt (by cases v <;> first | exact Or.inl rfl | exact Or.inr ⟨_, rfl⟩ | cases hr) (fun t ht hW => ⟨⟨some v, h, n, rfl, hv, by rw [ht]; exact hH⟩, hS.F ht⟩) hS.2.2 hd C.2.2.1)
theorem con_blind {args : List Value} : FrameBlind (va_Pc (args.map (gv B)) (fun U => gHw D B h n U.heap ∧ gK D U)) := fun a U g mk q => by
  obtain ⟨q0, qH, qK⟩ := q
  exact ⟨q0, qH, qK.blind⟩
theorem g_after {p : Program} {e : Env} {R : Room} {s : State} {m : MethodId} {args : Array Value} {below : List Frame} {meth : Method} {c : Code} {Q' : State → Prop} {H : Heap} {locs : List Loc} {ls : Array Slot} {st0 : List Value} {a : Array Value} {Q : Option Value → gHp → Nat → Prop} {mc ms : Nat}
    (hr : va_Run p l e R s m args below meth c H locs k sl mc ms (F0 m pc ls st0) (st.map (gv B)) (gPost D B Q a) (gA B)) (hS : va_S (gA B) s.heap H locs) (hL : gL B ls c.maxLocals L)
    (kk : ∀ v h' n', Q v h' n' → G (p, l, e, R, s, m, args, below, meth, c, Q') D B h' n' (k + mc) (sl + ms) L (pc + 3) (v.toList ++ st)) : W p l e R s m args below meth c H locs k sl Q' (F0 m pc ls st0) := by
  intro T hT X
  obtain ⟨v, st₀, t, T', Lc, h0, X', hLc, e1, e2, ⟨⟨v', h', n', hv, hq, hh⟩, hz, hk⟩, hst⟩ := hr T hT X
  have hv : v = v'.map (gv B) := Outcome.returned.inj hv
  subst hv
  rw [h0] at hz hk
  have h1 := kk v' h' n' hq T'.heap (locs ++ Lc) ls (by rw [e1]; exact hh) ⟨Nat.le_trans hS.1 (by rw [e1]; exact hz), fun q h1 h2 => by rw [e1, hk q (Nat.lt_of_lt_of_le h1 hS.1) h2]; exact hS.2.1 q h1 h2, fun q hq => by
      rcases List.mem_append.mp hq with h | h
      · exact hS.2.2 q h
      · exact hLc q h⟩ hL
  have e3 : (v'.toList ++ st).map (gv B) = (v'.map (gv B)).toList ++ st.map (gv B) := by
    rw [List.map_append]
    cases v' <;> rfl
  rw [e3] at h1
  obtain ⟨t2, a1, b1⟩ := h1 T' rfl X'
  exact ⟨t2, hst t2 a1, b1⟩
theorem g_rev (As : List Value) (v : Value) : (As.reverse ++ v :: st).map (gv B) = (As.map (gv B)).reverse ++ gv B v :: st.map (gv B) := by
  rw [List.map_append, List.map_reverse, List.map_cons]
theorem g_rev0 (As : List Value) : (As.reverse ++ st).map (gv B) = (As.map (gv B)).reverse ++ st.map (gv B) := by
  rw [List.map_append, List.map_reverse]
theorem g_cats (h8 : (st.map fun v => v.category).sum ≤ 8) : ((st.map (gv B)).map fun v => v.category).sum ≤ 8 := by
  have hm : ((st.map (gv B)).map fun v => v.category) = st.map fun v => v.category := by
    rw [List.map_map]; congr 1; funext v; exact gv_cat B v
  rw [hm]; exact h8
theorem g_callV (C : gX X D B cc y nL rt rm l) {a ci : Nat} {r : vw_C} {fs : List Value} {y' : MethodName} {bytes : ByteArray} {maxL idx mc ms : Nat} {ret : Option FieldType} {rm' : Room} {Q : Option Value → gHp → Nat → Prop} {st0 : List Value} (As : List Value) (st : List Value) (hd : decode cc pc = .ok (.invokevirtual idx, 3)) (hM : Con l y' (ws_ y' bytes maxL ret) rm' D B (.ref a :: As) h n Q mc ms) (hG : GoodIn lw_all (wsV y.cls idx y'.cls y' (ws_ y' bytes maxL ret))) (ha : h a = some (.inr (ci, fs))) (hc : gcl[ci]? = some r) (hrn : r.1 = y'.cls) (hdsc : y'.cls ≠ "java/lang/invoke/MethodHandle" ∧ y'.cls ≠ "java/lang/invoke/VarHandle" ∧ (parseMethodDescriptor y'.desc).map (fun d => d.parameters.length) = some As.length) (hrm : rm'.cells = mc ∧ rm'.slots = ms) (hR : rm'.frames + 1 ≤ rm.frames ∧ 8 + (maxL + 11) + rm'.locals ≤ rm.locals) (hf : k + mc ≤ rm.cells ∧ sl + ms ≤ rm.slots) (h8 : (st.map fun v => v.category).sum ≤ 8) (hstk : st0 = As.reverse ++ .ref a :: st) (kk : ∀ v h' n', Q v h' n' → G X D B h' n' (k + mc) (sl + ms) L (pc + 3) (v.toList ++ st)) : G X D B h n k sl L pc st0 := by
  obtain ⟨p, l', e, R, s, m, args, below, meth, c, Q⟩ := X
  intro H locs ls hH hS hL
  have e0 : R = rm := C.2.2.2.2.2.1
  have e9 : l' = l := C.2.2.2.2.2.2.1
  subst e0
  subst e9
  subst hstk
  have hts := C.1.2.2.2.2
  rw [g_rev]
  refine g_after (va_runV (As := As.map (gv B)) (rest := st.map (gv B)) C.1 hM (cwV As.length hts hG rfl hrm.1 hrm.2 ⟨rfl, hdsc⟩ hR) ⟨con_blind, by rw [← hrn]; exact g_recv C hH ha hc, fun U hU hW => ⟨rfl, by rw [hU]; exact hH, C.2.1.moved hW⟩⟩ rfl (by rw [List.length_map]) (by rw [← C.1.2.2.1]; exact hL.1) rfl (lv_room (g_cats h8)) hd hf) hS hL kk
theorem g_callS (C : gX X D B cc y nL rt rm l) {y' : MethodName} {bytes : ByteArray} {maxL idx mc ms : Nat} {ret : Option FieldType} {rm' : Room} {Q : Option Value → gHp → Nat → Prop} {st0 : List Value} (As : List Value) (st : List Value) (hd : decode cc pc = .ok (.invokestatic idx, 3)) (hM : Con l y' (ws_ y' bytes maxL ret) rm' D B As h n Q mc ms) (hG : GoodIn lw_all (va_wsS y.cls idx y' (ws_ y' bytes maxL ret))) (hdsc : y'.cls ≠ "java/lang/invoke/MethodHandle" ∧ y'.cls ≠ "java/lang/invoke/VarHandle" ∧ (parseMethodDescriptor y'.desc).map (fun d => d.parameters.length) = some As.length) (hrm : rm'.cells = mc ∧ rm'.slots = ms) (hR : rm'.frames + 1 ≤ rm.frames ∧ 8 + (maxL + 11) + rm'.locals ≤ rm.locals) (hf : k + mc ≤ rm.cells ∧ sl + ms ≤ rm.slots) (h8 : (st.map fun v => v.category).sum ≤ 8) (hstk : st0 = As.reverse ++ st) (kk : ∀ v h' n', Q v h' n' → G X D B h' n' (k + mc) (sl + ms) L (pc + 3) (v.toList ++ st)) : G X D B h n k sl L pc st0 := by
  obtain ⟨p, l', e, R, s, m, args, below, meth, c, Q⟩ := X
  intro H locs ls hH hS hL
  have e0 : R = rm := C.2.2.2.2.2.1
  have e9 : l' = l := C.2.2.2.2.2.2.1
  subst e0
  subst e9
  subst hstk
  have hts := C.1.2.2.2.2
  rw [g_rev0]
  refine g_after (va_runS (As := As.map (gv B)) (rest := st.map (gv B)) C.1 hM (va_cwS As.length hts hG rfl hrm.1 hrm.2 hdsc hR) ⟨con_blind, fun U hU hW => ⟨rfl, by rw [hU]; exact hH, C.2.1.moved hW⟩⟩ rfl (by rw [List.length_map]) (by rw [← C.1.2.2.1]; exact hL.1) rfl (lv_room (g_cats h8)) hd hf) hS hL kk
theorem g_callI (C : gX X D B cc y nL rt rm l) {a : Nat} {y' : MethodName} {bytes : ByteArray} {maxL idx mc ms : Nat} {ret : Option FieldType} {rm' : Room} {Q : Option Value → gHp → Nat → Prop} {st0 : List Value} (As : List Value) (st : List Value) (hd : decode cc pc = .ok (.invokespecial idx, 3)) (hM : Con l y' (ws_ y' bytes maxL ret) rm' D B (.ref a :: As) h n Q mc ms) (hG : Cond.code y' bytes maxL ret ∈ lw_all) (hret : ret = none) (hini : Cond.initialized y'.cls ∈ lw_all) (hl : Cond.methodLink y.cls idx y' ∈ lw_all) (hin : Cond.instanceMethod y' ∈ lw_all) (hy1 : y'.name = "<init>") (hdsc : y'.cls ≠ "java/lang/invoke/MethodHandle" ∧ y'.cls ≠ "java/lang/invoke/VarHandle" ∧ (parseMethodDescriptor y'.desc).map (fun d => d.parameters.length) = some As.length) (hrm : rm'.cells = mc ∧ rm'.slots = ms) (hR : rm'.frames + 1 ≤ rm.frames ∧ 8 + (maxL + 11) + rm'.locals ≤ rm.locals) (hf : k + mc ≤ rm.cells ∧ sl + ms ≤ rm.slots) (h8 : (st.map fun v => v.category).sum ≤ 8) (hstk : st0 = As.reverse ++ .ref a :: st) (kk : ∀ v h' n', Q v h' n' → G X D B h' n' (k + mc) (sl + ms) L (pc + 3) (v.toList ++ st)) : G X D B h n k sl L pc st0 := by
  obtain ⟨p, l', e, R, s, m, args, below, meth, c, Q⟩ := X
  intro H locs ls hH hS hL
  have e0 : R = rm := C.2.2.2.2.2.1
  have e9 : l' = l := C.2.2.2.2.2.2.1
  subst e0
  subst e9
  subst hstk
  subst hret
  have hts := C.1.2.2.2.2
  rw [g_rev]
  refine g_after (va_runI (As := As.map (gv B)) (rest := st.map (gv B)) C.1 hM (cwI As.length hts (lw_meth hG) rfl hrm.1 hrm.2 (hts _ hini) (hts _ hl) (hts _ hin) hy1 hdsc hR) ⟨con_blind, fun U hU hW => ⟨rfl, by rw [hU]; exact hH, C.2.1.moved hW⟩⟩ rfl (by rw [List.length_map]) (by rw [← C.1.2.2.1]; exact hL.1) rfl (lv_room (g_cats h8)) hd hf) hS hL kk
end GR
