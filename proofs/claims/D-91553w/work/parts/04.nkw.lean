/-! LifeKeys -/
set_option maxRecDepth 100000
def RX1 : String := "LifeKeys"
def TX1 : u_T := fun k => match k with
  | 0 => ("LifeKeys", "now", "I", false)
  | 1 => ("LifeKeys", "holders", "I", false)
  | 2 => ("LifeKeys", "keys", "[LLifeKeys$Key;", true)
  | 3 => ("LifeKeys", "keyMany", "I", false)
  | 4 => ("LifeKeys", "tape", "[B", true)
  | 5 => ("LifeKeys", "taped", "I", false)
  | 6 => ("LifeKeys", "place", "I", false)
  | 7 => ("LifeKeys", "deep", "I", false)
  | 8 => ("LifeKeys", "ways", "LLifeKeys$Way;", false)
  | 9 => ("LifeKeys", "wraps", "[LLifeKeys$Wrap;", true)
  | 10 => ("LifeKeys", "partings", "[LLifeKeys$Parting;", true)
  | 11 => ("LifeKeys", "wrapMany", "I", false)
  | 12 => ("LifeKeys", "partingMany", "I", false)
  | 13 => ("LifeKeys", "bench", "[I", true)
  | 14 => ("LifeKeys", "benchSet", "I", false)
  | 15 => ("LifeKeys", "fault", "LLifeKeys$Fault;", true)
  | 16 => ("LifeKeys", "rules", "[LLifeKeys$Test;", true)
  | 17 => ("LifeKeys", "ruleMany", "I", false)
  | 18 => ("LifeKeys", "aboutHolde\x72", "[LLifeKeys$Saying;", true)
  | 19 => ("LifeKeys", "mourned", "[I", true)
  | 20 => ("LifeKeys", "deathHolde\x72", "[I", true)
  | 21 => ("LifeKeys", "deathRule", "[I", true)
  | 22 => ("LifeKeys", "deathTold", "[I", true)
  | 23 => ("LifeKeys", "sayings", "I", false)
  | 24 => ("LifeKeys", "deaths", "I", false)
  | 25 => ("LifeKeys", "things", "[LLifeKeys$Thing;", true)
  | 26 => ("LifeKeys", "thingMany", "I", false)
  | 27 => ("LifeKeys", "signatures", "[LLifeKeys$Signature;", true)
  | 28 => ("LifeKeys", "signedMany", "I", false)
  | 29 => ("LifeKeys", "burns", "I", false)
  | 30 => ("LifeKeys", "isFalse", "[Z", true)
  | 31 => ("LifeKeys", "starts", "[I", true)
  | 32 => ("LifeKeys", "lents", "[LLifeKeys$Lent;", true)
  | 33 => ("LifeKeys", "lentMany", "I", false)
  | 34 => ("LifeKeys", "falls", "[I", true)
  | 35 => ("LifeKeys", "fallMany", "I", false)
  | 36 => ("LifeKeys", "leastSet", "I", false)
  | _ => ("LifeKeys", "leastWays", "I", false)
def tyX1 : Nat → FieldType := fun k => match k with
  | 0 => .int
  | 1 => .int
  | 2 => .array (.object "LifeKeys$Key")
  | 3 => .int
  | 4 => .array .byte
  | 5 => .int
  | 6 => .int
  | 7 => .int
  | 8 => .object "LifeKeys$Way"
  | 9 => .array (.object "LifeKeys$Wrap")
  | 10 => .array (.object "LifeKeys$Parting")
  | 11 => .int
  | 12 => .int
  | 13 => .array .int
  | 14 => .int
  | 15 => .object "LifeKeys$Fault"
  | 16 => .array (.object "LifeKeys$Test")
  | 17 => .int
  | 18 => .array (.object "LifeKeys$Saying")
  | 19 => .array .int
  | 20 => .array .int
  | 21 => .array .int
  | 22 => .array .int
  | 23 => .int
  | 24 => .int
  | 25 => .array (.object "LifeKeys$Thing")
  | 26 => .int
  | 27 => .array (.object "LifeKeys$Signature")
  | 28 => .int
  | 29 => .int
  | 30 => .array .boolean
  | 31 => .array .int
  | 32 => .array (.object "LifeKeys$Lent")
  | 33 => .int
  | 34 => .array .int
  | 35 => .int
  | 36 => .int
  | _ => .int
abbrev wsX10 : List Cond := u_ws RX1 TX1 38
set_option maxRecDepth 100000 in
theorem nmX1 : ∀ a, a < 38 → ∀ b, b < 38 → a ≠ b → (TX1 a).2.1 ≠ (TX1 b).2.1 := by decide +kernel
set_option maxRecDepth 100000 in
theorem tyX1_ok : ∀ k, k < 38 → parseFieldDescriptor (TX1 k).2.2.1 = some (tyX1 k) := by decide +kernel
theorem q83 : (Jvm.Cond.initialized "LifeKeys") ∈ lw_all := lw_g (lw_at lw_m1 1 rfl) rfl
theorem q111 : (Jvm.Cond.instantiable "LifeKeys" (38 : Nat)) ∈ lw_all := lw_g (lw_at lw_m1 29 rfl) rfl
theorem q113 : (Jvm.Cond.instanceMethod ({ cls := "LifeKeys", name := "<init>", desc := "()V" } : Jvm.MethodName)) ∈ lw_all := lw_g (lw_at lw_m1 31 rfl) rfl
theorem q114 : (Jvm.Cond.code ({ cls := "LifeKeys", name := "<init>", desc := "()V" } : Jvm.MethodName) prog_1_method_2_code (1 : Nat) (Option.none : Option Jvm.ClassFile.FieldType)) ∈ lw_all := lw_g (lw_at lw_m1 32 rfl) rfl
theorem q115 : (Jvm.Cond.methodLink "LifeKeys" (1 : Nat) ({ cls := "java/lang/Object", name := "<init>", desc := "()V" } : Jvm.MethodName)) ∈ lw_all := lw_g (lw_at lw_m1 33 rfl) rfl
theorem q118 : (Jvm.Cond.classLink "LifeKeys" (9 : Nat) "LifeKeys$Key") ∈ lw_all := lw_g (lw_at lw_m1 36 rfl) rfl
theorem q120 : (Jvm.Cond.classLink "LifeKeys" (19 : Nat) "LifeKeys$Wrap") ∈ lw_all := lw_g (lw_at lw_m1 38 rfl) rfl
theorem q122 : (Jvm.Cond.classLink "LifeKeys" (25 : Nat) "LifeKeys$Parting") ∈ lw_all := lw_g (lw_at lw_m1 40 rfl) rfl
theorem q124 : (Jvm.Cond.classLink "LifeKeys" (35 : Nat) "LifeKeys$Fault") ∈ lw_all := lw_g (lw_at lw_m1 42 rfl) rfl
theorem q162 : (Jvm.Cond.methodLinkNest "LifeKeys" (37 : Nat) ({ cls := "LifeKeys$Fault", name := "<init>", desc := "()V" } : Jvm.MethodName) "LifeKeys") ∈ lw_tbl := lw_at lw_m1 80 rfl
theorem q183 : (Jvm.Cond.classLink "LifeKeys" (42 : Nat) "LifeKeys$Test") ∈ lw_all := lw_g (lw_at lw_m1 101 rfl) rfl
theorem q185 : (Jvm.Cond.classLink "LifeKeys" (48 : Nat) "LifeKeys$Saying") ∈ lw_all := lw_g (lw_at lw_m1 103 rfl) rfl
theorem q187 : (Jvm.Cond.classLink "LifeKeys" (66 : Nat) "LifeKeys$Thing") ∈ lw_all := lw_g (lw_at lw_m1 105 rfl) rfl
theorem q189 : (Jvm.Cond.classLink "LifeKeys" (72 : Nat) "LifeKeys$Signature") ∈ lw_all := lw_g (lw_at lw_m1 107 rfl) rfl
theorem q191 : (Jvm.Cond.classLink "LifeKeys" (85 : Nat) "LifeKeys$Lent") ∈ lw_all := lw_g (lw_at lw_m1 109 rfl) rfl
theorem q193 : (Jvm.Cond.fieldLink "LifeKeys" (98 : Nat) "LifeKeys" "now" "I") ∈ lw_all := lw_g (lw_at lw_m1 111 rfl) rfl
theorem q194 : (Jvm.Cond.fieldLink "LifeKeys" (102 : Nat) "LifeKeys" "holders" "I") ∈ lw_all := lw_g (lw_at lw_m1 112 rfl) rfl
theorem q195 : (Jvm.Cond.fieldLink "LifeKeys" (11 : Nat) "LifeKeys" "keys" "[LLifeKeys$Key;") ∈ lw_all := lw_g (lw_at lw_m1 113 rfl) rfl
theorem q196 : (Jvm.Cond.fieldLink "LifeKeys" (119 : Nat) "LifeKeys" "keyMany" "I") ∈ lw_all := lw_g (lw_at lw_m1 114 rfl) rfl
theorem q197 : (Jvm.Cond.fieldLink "LifeKeys" (15 : Nat) "LifeKeys" "tape" "[B") ∈ lw_all := lw_g (lw_at lw_m1 115 rfl) rfl
theorem q198 : (Jvm.Cond.fieldLink "LifeKeys" (141 : Nat) "LifeKeys" "taped" "I") ∈ lw_all := lw_g (lw_at lw_m1 116 rfl) rfl
theorem q199 : (Jvm.Cond.fieldLink "LifeKeys" (296 : Nat) "LifeKeys" "place" "I") ∈ lw_all := lw_g (lw_at lw_m1 117 rfl) rfl
theorem q200 : (Jvm.Cond.fieldLink "LifeKeys" (299 : Nat) "LifeKeys" "deep" "I") ∈ lw_all := lw_g (lw_at lw_m1 118 rfl) rfl
theorem q201 : (Jvm.Cond.fieldLink "LifeKeys" (178 : Nat) "LifeKeys" "ways" "LLifeKeys$Way;") ∈ lw_all := lw_g (lw_at lw_m1 119 rfl) rfl
theorem q202 : (Jvm.Cond.fieldLink "LifeKeys" (21 : Nat) "LifeKeys" "wraps" "[LLifeKeys$Wrap;") ∈ lw_all := lw_g (lw_at lw_m1 120 rfl) rfl
theorem q203 : (Jvm.Cond.fieldLink "LifeKeys" (27 : Nat) "LifeKeys" "partings" "[LLifeKeys$Parting;") ∈ lw_all := lw_g (lw_at lw_m1 121 rfl) rfl
theorem q204 : (Jvm.Cond.fieldLink "LifeKeys" (212 : Nat) "LifeKeys" "wrapMany" "I") ∈ lw_all := lw_g (lw_at lw_m1 122 rfl) rfl
theorem q205 : (Jvm.Cond.fieldLink "LifeKeys" (219 : Nat) "LifeKeys" "partingMany" "I") ∈ lw_all := lw_g (lw_at lw_m1 123 rfl) rfl
theorem q206 : (Jvm.Cond.fieldLink "LifeKeys" (31 : Nat) "LifeKeys" "bench" "[I") ∈ lw_all := lw_g (lw_at lw_m1 124 rfl) rfl
theorem q207 : (Jvm.Cond.fieldLink "LifeKeys" (267 : Nat) "LifeKeys" "benchSet" "I") ∈ lw_all := lw_g (lw_at lw_m1 125 rfl) rfl
theorem q208 : (Jvm.Cond.fieldLink "LifeKeys" (38 : Nat) "LifeKeys" "fault" "LLifeKeys$Fault;") ∈ lw_all := lw_g (lw_at lw_m1 126 rfl) rfl
theorem q209 : (Jvm.Cond.fieldLink "LifeKeys" (44 : Nat) "LifeKeys" "rules" "[LLifeKeys$Test;") ∈ lw_all := lw_g (lw_at lw_m1 127 rfl) rfl
theorem q210 : (Jvm.Cond.fieldLink "LifeKeys" (349 : Nat) "LifeKeys" "ruleMany" "I") ∈ lw_all := lw_g (lw_at lw_m1 128 rfl) rfl
theorem q211 : (Jvm.Cond.fieldLink "LifeKeys" (50 : Nat) "LifeKeys" "aboutHolde\x72" "[LLifeKeys$Saying;") ∈ lw_all := lw_g (lw_at lw_m1 129 rfl) rfl
theorem q212 : (Jvm.Cond.fieldLink "LifeKeys" (54 : Nat) "LifeKeys" "mourned" "[I") ∈ lw_all := lw_g (lw_at lw_m1 130 rfl) rfl
theorem q213 : (Jvm.Cond.fieldLink "LifeKeys" (57 : Nat) "LifeKeys" "deathHolde\x72" "[I") ∈ lw_all := lw_g (lw_at lw_m1 131 rfl) rfl
theorem q214 : (Jvm.Cond.fieldLink "LifeKeys" (60 : Nat) "LifeKeys" "deathRule" "[I") ∈ lw_all := lw_g (lw_at lw_m1 132 rfl) rfl
theorem q215 : (Jvm.Cond.fieldLink "LifeKeys" (63 : Nat) "LifeKeys" "deathTold" "[I") ∈ lw_all := lw_g (lw_at lw_m1 133 rfl) rfl
theorem q216 : (Jvm.Cond.fieldLink "LifeKeys" (370 : Nat) "LifeKeys" "sayings" "I") ∈ lw_all := lw_g (lw_at lw_m1 134 rfl) rfl
theorem q217 : (Jvm.Cond.fieldLink "LifeKeys" (355 : Nat) "LifeKeys" "deaths" "I") ∈ lw_all := lw_g (lw_at lw_m1 135 rfl) rfl
theorem q218 : (Jvm.Cond.fieldLink "LifeKeys" (68 : Nat) "LifeKeys" "things" "[LLifeKeys$Thing;") ∈ lw_all := lw_g (lw_at lw_m1 136 rfl) rfl
theorem q219 : (Jvm.Cond.fieldLink "LifeKeys" (376 : Nat) "LifeKeys" "thingMany" "I") ∈ lw_all := lw_g (lw_at lw_m1 137 rfl) rfl
theorem q220 : (Jvm.Cond.fieldLink "LifeKeys" (74 : Nat) "LifeKeys" "signatures" "[LLifeKeys$Signature;") ∈ lw_all := lw_g (lw_at lw_m1 138 rfl) rfl
theorem q221 : (Jvm.Cond.fieldLink "LifeKeys" (411 : Nat) "LifeKeys" "signedMany" "I") ∈ lw_all := lw_g (lw_at lw_m1 139 rfl) rfl
theorem q222 : (Jvm.Cond.fieldLink "LifeKeys" (454 : Nat) "LifeKeys" "burns" "I") ∈ lw_all := lw_g (lw_at lw_m1 140 rfl) rfl
theorem q223 : (Jvm.Cond.fieldLink "LifeKeys" (78 : Nat) "LifeKeys" "isFalse" "[Z") ∈ lw_all := lw_g (lw_at lw_m1 141 rfl) rfl
theorem q224 : (Jvm.Cond.fieldLink "LifeKeys" (82 : Nat) "LifeKeys" "starts" "[I") ∈ lw_all := lw_g (lw_at lw_m1 142 rfl) rfl
theorem q225 : (Jvm.Cond.fieldLink "LifeKeys" (87 : Nat) "LifeKeys" "lents" "[LLifeKeys$Lent;") ∈ lw_all := lw_g (lw_at lw_m1 143 rfl) rfl
theorem q226 : (Jvm.Cond.fieldLink "LifeKeys" (468 : Nat) "LifeKeys" "lentMany" "I") ∈ lw_all := lw_g (lw_at lw_m1 144 rfl) rfl
theorem q227 : (Jvm.Cond.fieldLink "LifeKeys" (91 : Nat) "LifeKeys" "falls" "[I") ∈ lw_all := lw_g (lw_at lw_m1 145 rfl) rfl
theorem q228 : (Jvm.Cond.fieldLink "LifeKeys" (485 : Nat) "LifeKeys" "fallMany" "I") ∈ lw_all := lw_g (lw_at lw_m1 146 rfl) rfl
theorem q229 : (Jvm.Cond.fieldLink "LifeKeys" (495 : Nat) "LifeKeys" "leastSet" "I") ∈ lw_all := lw_g (lw_at lw_m1 147 rfl) rfl
theorem q230 : (Jvm.Cond.fieldLink "LifeKeys" (498 : Nat) "LifeKeys" "leastWays" "I") ∈ lw_all := lw_g (lw_at lw_m1 148 rfl) rfl
theorem q231 : (Jvm.Cond.lays "LifeKeys" "LifeKeys" "now" "I") ∈ lw_all := lw_g (lw_at lw_m1 149 rfl) rfl
theorem q232 : (Jvm.Cond.soleField "LifeKeys" "now") ∈ lw_all := lw_g (lw_at lw_m1 150 rfl) rfl
theorem q233 : (Jvm.Cond.lays "LifeKeys" "LifeKeys" "holders" "I") ∈ lw_all := lw_g (lw_at lw_m1 151 rfl) rfl
theorem q234 : (Jvm.Cond.soleField "LifeKeys" "holders") ∈ lw_all := lw_g (lw_at lw_m1 152 rfl) rfl
theorem q235 : (Jvm.Cond.laysFinal "LifeKeys" "LifeKeys" "keys" "[LLifeKeys$Key;") ∈ lw_all := lw_g (lw_at lw_m1 153 rfl) rfl
theorem q236 : (Jvm.Cond.soleField "LifeKeys" "keys") ∈ lw_all := lw_g (lw_at lw_m1 154 rfl) rfl
theorem q237 : (Jvm.Cond.lays "LifeKeys" "LifeKeys" "keyMany" "I") ∈ lw_all := lw_g (lw_at lw_m1 155 rfl) rfl
theorem q238 : (Jvm.Cond.soleField "LifeKeys" "keyMany") ∈ lw_all := lw_g (lw_at lw_m1 156 rfl) rfl
theorem q239 : (Jvm.Cond.laysFinal "LifeKeys" "LifeKeys" "tape" "[B") ∈ lw_all := lw_g (lw_at lw_m1 157 rfl) rfl
theorem q240 : (Jvm.Cond.soleField "LifeKeys" "tape") ∈ lw_all := lw_g (lw_at lw_m1 158 rfl) rfl
theorem q241 : (Jvm.Cond.lays "LifeKeys" "LifeKeys" "taped" "I") ∈ lw_all := lw_g (lw_at lw_m1 159 rfl) rfl
theorem q242 : (Jvm.Cond.soleField "LifeKeys" "taped") ∈ lw_all := lw_g (lw_at lw_m1 160 rfl) rfl
theorem q243 : (Jvm.Cond.lays "LifeKeys" "LifeKeys" "place" "I") ∈ lw_all := lw_g (lw_at lw_m1 161 rfl) rfl
theorem q244 : (Jvm.Cond.soleField "LifeKeys" "place") ∈ lw_all := lw_g (lw_at lw_m1 162 rfl) rfl
theorem q245 : (Jvm.Cond.lays "LifeKeys" "LifeKeys" "deep" "I") ∈ lw_all := lw_g (lw_at lw_m1 163 rfl) rfl
theorem q246 : (Jvm.Cond.soleField "LifeKeys" "deep") ∈ lw_all := lw_g (lw_at lw_m1 164 rfl) rfl
theorem q247 : (Jvm.Cond.lays "LifeKeys" "LifeKeys" "ways" "LLifeKeys$Way;") ∈ lw_all := lw_g (lw_at lw_m1 165 rfl) rfl
theorem q248 : (Jvm.Cond.soleField "LifeKeys" "ways") ∈ lw_all := lw_g (lw_at lw_m1 166 rfl) rfl
theorem q249 : (Jvm.Cond.laysFinal "LifeKeys" "LifeKeys" "wraps" "[LLifeKeys$Wrap;") ∈ lw_all := lw_g (lw_at lw_m1 167 rfl) rfl
theorem q250 : (Jvm.Cond.soleField "LifeKeys" "wraps") ∈ lw_all := lw_g (lw_at lw_m1 168 rfl) rfl
theorem q251 : (Jvm.Cond.laysFinal "LifeKeys" "LifeKeys" "partings" "[LLifeKeys$Parting;") ∈ lw_all := lw_g (lw_at lw_m1 169 rfl) rfl
theorem q252 : (Jvm.Cond.soleField "LifeKeys" "partings") ∈ lw_all := lw_g (lw_at lw_m1 170 rfl) rfl
theorem q253 : (Jvm.Cond.lays "LifeKeys" "LifeKeys" "wrapMany" "I") ∈ lw_all := lw_g (lw_at lw_m1 171 rfl) rfl
theorem q254 : (Jvm.Cond.soleField "LifeKeys" "wrapMany") ∈ lw_all := lw_g (lw_at lw_m1 172 rfl) rfl
theorem q255 : (Jvm.Cond.lays "LifeKeys" "LifeKeys" "partingMany" "I") ∈ lw_all := lw_g (lw_at lw_m1 173 rfl) rfl
theorem q256 : (Jvm.Cond.soleField "LifeKeys" "partingMany") ∈ lw_all := lw_g (lw_at lw_m1 174 rfl) rfl
theorem q257 : (Jvm.Cond.laysFinal "LifeKeys" "LifeKeys" "bench" "[I") ∈ lw_all := lw_g (lw_at lw_m1 175 rfl) rfl
theorem q258 : (Jvm.Cond.soleField "LifeKeys" "bench") ∈ lw_all := lw_g (lw_at lw_m1 176 rfl) rfl
theorem q259 : (Jvm.Cond.lays "LifeKeys" "LifeKeys" "benchSet" "I") ∈ lw_all := lw_g (lw_at lw_m1 177 rfl) rfl
theorem q260 : (Jvm.Cond.soleField "LifeKeys" "benchSet") ∈ lw_all := lw_g (lw_at lw_m1 178 rfl) rfl
theorem q261 : (Jvm.Cond.laysFinal "LifeKeys" "LifeKeys" "fault" "LLifeKeys$Fault;") ∈ lw_all := lw_g (lw_at lw_m1 179 rfl) rfl
theorem q262 : (Jvm.Cond.soleField "LifeKeys" "fault") ∈ lw_all := lw_g (lw_at lw_m1 180 rfl) rfl
theorem q263 : (Jvm.Cond.laysFinal "LifeKeys" "LifeKeys" "rules" "[LLifeKeys$Test;") ∈ lw_all := lw_g (lw_at lw_m1 181 rfl) rfl
theorem q264 : (Jvm.Cond.soleField "LifeKeys" "rules") ∈ lw_all := lw_g (lw_at lw_m1 182 rfl) rfl
theorem q265 : (Jvm.Cond.lays "LifeKeys" "LifeKeys" "ruleMany" "I") ∈ lw_all := lw_g (lw_at lw_m1 183 rfl) rfl
theorem q266 : (Jvm.Cond.soleField "LifeKeys" "ruleMany") ∈ lw_all := lw_g (lw_at lw_m1 184 rfl) rfl
theorem q267 : (Jvm.Cond.laysFinal "LifeKeys" "LifeKeys" "aboutHolde\x72" "[LLifeKeys$Saying;") ∈ lw_all := lw_g (lw_at lw_m1 185 rfl) rfl
theorem q268 : (Jvm.Cond.soleField "LifeKeys" "aboutHolde\x72") ∈ lw_all := lw_g (lw_at lw_m1 186 rfl) rfl
theorem q269 : (Jvm.Cond.laysFinal "LifeKeys" "LifeKeys" "mourned" "[I") ∈ lw_all := lw_g (lw_at lw_m1 187 rfl) rfl
theorem q270 : (Jvm.Cond.soleField "LifeKeys" "mourned") ∈ lw_all := lw_g (lw_at lw_m1 188 rfl) rfl
theorem q271 : (Jvm.Cond.laysFinal "LifeKeys" "LifeKeys" "deathHolde\x72" "[I") ∈ lw_all := lw_g (lw_at lw_m1 189 rfl) rfl
theorem q272 : (Jvm.Cond.soleField "LifeKeys" "deathHolde\x72") ∈ lw_all := lw_g (lw_at lw_m1 190 rfl) rfl
theorem q273 : (Jvm.Cond.laysFinal "LifeKeys" "LifeKeys" "deathRule" "[I") ∈ lw_all := lw_g (lw_at lw_m1 191 rfl) rfl
theorem q274 : (Jvm.Cond.soleField "LifeKeys" "deathRule") ∈ lw_all := lw_g (lw_at lw_m1 192 rfl) rfl
theorem q275 : (Jvm.Cond.laysFinal "LifeKeys" "LifeKeys" "deathTold" "[I") ∈ lw_all := lw_g (lw_at lw_m1 193 rfl) rfl
theorem q276 : (Jvm.Cond.soleField "LifeKeys" "deathTold") ∈ lw_all := lw_g (lw_at lw_m1 194 rfl) rfl
theorem q277 : (Jvm.Cond.lays "LifeKeys" "LifeKeys" "sayings" "I") ∈ lw_all := lw_g (lw_at lw_m1 195 rfl) rfl
theorem q278 : (Jvm.Cond.soleField "LifeKeys" "sayings") ∈ lw_all := lw_g (lw_at lw_m1 196 rfl) rfl
theorem q279 : (Jvm.Cond.lays "LifeKeys" "LifeKeys" "deaths" "I") ∈ lw_all := lw_g (lw_at lw_m1 197 rfl) rfl
theorem q280 : (Jvm.Cond.soleField "LifeKeys" "deaths") ∈ lw_all := lw_g (lw_at lw_m1 198 rfl) rfl
theorem q281 : (Jvm.Cond.laysFinal "LifeKeys" "LifeKeys" "things" "[LLifeKeys$Thing;") ∈ lw_all := lw_g (lw_at lw_m1 199 rfl) rfl
theorem q282 : (Jvm.Cond.soleField "LifeKeys" "things") ∈ lw_all := lw_g (lw_at lw_m1 200 rfl) rfl
theorem q283 : (Jvm.Cond.lays "LifeKeys" "LifeKeys" "thingMany" "I") ∈ lw_all := lw_g (lw_at lw_m1 201 rfl) rfl
theorem q284 : (Jvm.Cond.soleField "LifeKeys" "thingMany") ∈ lw_all := lw_g (lw_at lw_m1 202 rfl) rfl
theorem q285 : (Jvm.Cond.laysFinal "LifeKeys" "LifeKeys" "signatures" "[LLifeKeys$Signature;") ∈ lw_all := lw_g (lw_at lw_m1 203 rfl) rfl
theorem q286 : (Jvm.Cond.soleField "LifeKeys" "signatures") ∈ lw_all := lw_g (lw_at lw_m1 204 rfl) rfl
theorem q287 : (Jvm.Cond.lays "LifeKeys" "LifeKeys" "signedMany" "I") ∈ lw_all := lw_g (lw_at lw_m1 205 rfl) rfl
theorem q288 : (Jvm.Cond.soleField "LifeKeys" "signedMany") ∈ lw_all := lw_g (lw_at lw_m1 206 rfl) rfl
theorem q289 : (Jvm.Cond.lays "LifeKeys" "LifeKeys" "burns" "I") ∈ lw_all := lw_g (lw_at lw_m1 207 rfl) rfl
theorem q290 : (Jvm.Cond.soleField "LifeKeys" "burns") ∈ lw_all := lw_g (lw_at lw_m1 208 rfl) rfl
theorem q291 : (Jvm.Cond.laysFinal "LifeKeys" "LifeKeys" "isFalse" "[Z") ∈ lw_all := lw_g (lw_at lw_m1 209 rfl) rfl
theorem q292 : (Jvm.Cond.soleField "LifeKeys" "isFalse") ∈ lw_all := lw_g (lw_at lw_m1 210 rfl) rfl
theorem q293 : (Jvm.Cond.laysFinal "LifeKeys" "LifeKeys" "starts" "[I") ∈ lw_all := lw_g (lw_at lw_m1 211 rfl) rfl
theorem q294 : (Jvm.Cond.soleField "LifeKeys" "starts") ∈ lw_all := lw_g (lw_at lw_m1 212 rfl) rfl
theorem q295 : (Jvm.Cond.laysFinal "LifeKeys" "LifeKeys" "lents" "[LLifeKeys$Lent;") ∈ lw_all := lw_g (lw_at lw_m1 213 rfl) rfl
theorem q296 : (Jvm.Cond.soleField "LifeKeys" "lents") ∈ lw_all := lw_g (lw_at lw_m1 214 rfl) rfl
theorem q297 : (Jvm.Cond.lays "LifeKeys" "LifeKeys" "lentMany" "I") ∈ lw_all := lw_g (lw_at lw_m1 215 rfl) rfl
theorem q298 : (Jvm.Cond.soleField "LifeKeys" "lentMany") ∈ lw_all := lw_g (lw_at lw_m1 216 rfl) rfl
theorem q299 : (Jvm.Cond.laysFinal "LifeKeys" "LifeKeys" "falls" "[I") ∈ lw_all := lw_g (lw_at lw_m1 217 rfl) rfl
theorem q300 : (Jvm.Cond.soleField "LifeKeys" "falls") ∈ lw_all := lw_g (lw_at lw_m1 218 rfl) rfl
theorem q301 : (Jvm.Cond.lays "LifeKeys" "LifeKeys" "fallMany" "I") ∈ lw_all := lw_g (lw_at lw_m1 219 rfl) rfl
theorem q302 : (Jvm.Cond.soleField "LifeKeys" "fallMany") ∈ lw_all := lw_g (lw_at lw_m1 220 rfl) rfl
theorem q303 : (Jvm.Cond.lays "LifeKeys" "LifeKeys" "leastSet" "I") ∈ lw_all := lw_g (lw_at lw_m1 221 rfl) rfl
theorem q304 : (Jvm.Cond.soleField "LifeKeys" "leastSet") ∈ lw_all := lw_g (lw_at lw_m1 222 rfl) rfl
theorem q305 : (Jvm.Cond.lays "LifeKeys" "LifeKeys" "leastWays" "I") ∈ lw_all := lw_g (lw_at lw_m1 223 rfl) rfl
theorem q306 : (Jvm.Cond.soleField "LifeKeys" "leastWays") ∈ lw_all := lw_g (lw_at lw_m1 224 rfl) rfl
theorem q307 : (Jvm.Cond.superclass "LifeKeys" "java/lang/Object") ∈ lw_all := lw_g (lw_at lw_m1 225 rfl) rfl
theorem q310 : (Jvm.Cond.instanceMethod ({ cls := "LifeKeys", name := "days", desc := "(I)I" } : Jvm.MethodName)) ∈ lw_all := lw_g (lw_at lw_m1 228 rfl) rfl
theorem q311 : (Jvm.Cond.selects "LifeKeys" ({ cls := "LifeKeys", name := "days", desc := "(I)I" } : Jvm.MethodName) ({ cls := "LifeKeys", name := "days", desc := "(I)I" } : Jvm.MethodName)) ∈ lw_all := lw_g (lw_at lw_m1 229 rfl) rfl
theorem q312 : (Jvm.Cond.code ({ cls := "LifeKeys", name := "days", desc := "(I)I" } : Jvm.MethodName) prog_1_method_3_code (2 : Nat) (Option.some Jvm.ClassFile.FieldType.int)) ∈ lw_all := lw_g (lw_at lw_m1 230 rfl) rfl
theorem q313 : (Jvm.Cond.methodLink "LifeKeys" (94 : Nat) ({ cls := "LifeKeys", name := "in", desc := "(III)Z" } : Jvm.MethodName)) ∈ lw_all := lw_g (lw_at lw_m1 231 rfl) rfl
theorem q314 : (Jvm.Cond.static ({ cls := "LifeKeys", name := "in", desc := "(III)Z" } : Jvm.MethodName)) ∈ lw_all := lw_g (lw_at lw_m1 232 rfl) rfl
theorem q315 : (Jvm.Cond.code ({ cls := "LifeKeys", name := "in", desc := "(III)Z" } : Jvm.MethodName) prog_1_method_1_code (3 : Nat) (Option.some Jvm.ClassFile.FieldType.boolean)) ∈ lw_all := lw_g (lw_at lw_m1 233 rfl) rfl
theorem q317 : (Jvm.Cond.instanceMethod ({ cls := "LifeKeys", name := "holde\x72", desc := "()I" } : Jvm.MethodName)) ∈ lw_all := lw_g (lw_at lw_m1 235 rfl) rfl
theorem q318 : (Jvm.Cond.selects "LifeKeys" ({ cls := "LifeKeys", name := "holde\x72", desc := "()I" } : Jvm.MethodName) ({ cls := "LifeKeys", name := "holde\x72", desc := "()I" } : Jvm.MethodName)) ∈ lw_all := lw_g (lw_at lw_m1 236 rfl) rfl
theorem q319 : (Jvm.Cond.code ({ cls := "LifeKeys", name := "holde\x72", desc := "()I" } : Jvm.MethodName) prog_1_method_7_code (1 : Nat) (Option.some Jvm.ClassFile.FieldType.int)) ∈ lw_all := lw_g (lw_at lw_m1 237 rfl) rfl
theorem q321 : (Jvm.Cond.instanceMethod ({ cls := "LifeKeys", name := "key", desc := "(IZ)I" } : Jvm.MethodName)) ∈ lw_all := lw_g (lw_at lw_m1 239 rfl) rfl
theorem q322 : (Jvm.Cond.selects "LifeKeys" ({ cls := "LifeKeys", name := "key", desc := "(IZ)I" } : Jvm.MethodName) ({ cls := "LifeKeys", name := "key", desc := "(IZ)I" } : Jvm.MethodName)) ∈ lw_all := lw_g (lw_at lw_m2 0 rfl) rfl
theorem q323 : (Jvm.Cond.code ({ cls := "LifeKeys", name := "key", desc := "(IZ)I" } : Jvm.MethodName) prog_1_method_14_code (3 : Nat) (Option.some Jvm.ClassFile.FieldType.int)) ∈ lw_all := lw_g (lw_at lw_m2 1 rfl) rfl
theorem q324 : (Jvm.Cond.classLink "LifeKeys" (125 : Nat) "LifeKeys$Root") ∈ lw_all := lw_g (lw_at lw_m2 2 rfl) rfl
theorem q326 : (Jvm.Cond.methodLink "LifeKeys" (127 : Nat) ({ cls := "LifeKeys$Root", name := "<init>", desc := "(III)V" } : Jvm.MethodName)) ∈ lw_all := lw_g (lw_at lw_m2 4 rfl) rfl
theorem q337 : (Jvm.Cond.fieldLink "LifeKeys" (122 : Nat) "LifeKeys$Key" "numbe\x72" "I") ∈ lw_all := lw_g (lw_at lw_m2 15 rfl) rfl
theorem q342 : (Jvm.Cond.fieldLink "LifeKeys" (156 : Nat) "LifeKeys$Key" "secret" "I") ∈ lw_all := lw_g (lw_at lw_m2 20 rfl) rfl
theorem q344 : (Jvm.Cond.fieldLink "LifeKeys" (280 : Nat) "LifeKeys$Key" "born" "I") ∈ lw_all := lw_g (lw_at lw_m2 22 rfl) rfl
theorem q346 : (Jvm.Cond.fieldLinkNest "LifeKeys" (172 : Nat) "LifeKeys$Key" "old" "I" "LifeKeys") ∈ lw_tbl := lw_at lw_m2 24 rfl
theorem q348 : (Jvm.Cond.fieldLinkNest "LifeKeys" (459 : Nat) "LifeKeys$Key" "burns" "LLifeKeys$Burn;" "LifeKeys") ∈ lw_tbl := lw_at lw_m2 26 rfl
theorem q360 : (Jvm.Cond.classLink "LifeKeys" (130 : Nat) "LifeKeys$Plain") ∈ lw_all := lw_g (lw_at lw_m2 38 rfl) rfl
theorem q362 : (Jvm.Cond.methodLink "LifeKeys" (132 : Nat) ({ cls := "LifeKeys$Plain", name := "<init>", desc := "(III)V" } : Jvm.MethodName)) ∈ lw_all := lw_g (lw_at lw_m2 40 rfl) rfl
theorem q372 : (Jvm.Cond.methodLink "LifeKeys" (133 : Nat) ({ cls := "LifeKeys", name := "add", desc := "(LLifeKeys$Key;)I" } : Jvm.MethodName)) ∈ lw_all := lw_g (lw_at lw_m2 50 rfl) rfl
theorem q373 : (Jvm.Cond.privateMethod ({ cls := "LifeKeys", name := "add", desc := "(LLifeKeys$Key;)I" } : Jvm.MethodName)) ∈ lw_tbl := lw_at lw_m2 51 rfl
theorem q374 : (Jvm.Cond.instanceMethod ({ cls := "LifeKeys", name := "add", desc := "(LLifeKeys$Key;)I" } : Jvm.MethodName)) ∈ lw_all := lw_g (lw_at lw_m2 52 rfl) rfl
theorem q375 : (Jvm.Cond.code ({ cls := "LifeKeys", name := "add", desc := "(LLifeKeys$Key;)I" } : Jvm.MethodName) prog_1_method_13_code (2 : Nat) (Option.some Jvm.ClassFile.FieldType.int)) ∈ lw_all := lw_g (lw_at lw_m2 53 rfl) rfl
theorem q377 : (Jvm.Cond.instanceMethod ({ cls := "LifeKeys", name := "feed", desc := "(IIIII)I" } : Jvm.MethodName)) ∈ lw_all := lw_g (lw_at lw_m2 55 rfl) rfl
theorem q378 : (Jvm.Cond.selects "LifeKeys" ({ cls := "LifeKeys", name := "feed", desc := "(IIIII)I" } : Jvm.MethodName) ({ cls := "LifeKeys", name := "feed", desc := "(IIIII)I" } : Jvm.MethodName)) ∈ lw_all := lw_g (lw_at lw_m2 56 rfl) rfl
theorem q379 : (Jvm.Cond.code ({ cls := "LifeKeys", name := "feed", desc := "(IIIII)I" } : Jvm.MethodName) prog_1_method_16_code (9 : Nat) (Option.some Jvm.ClassFile.FieldType.int)) ∈ lw_all := lw_g (lw_at lw_m2 57 rfl) rfl
theorem q380 : (Jvm.Cond.methodLink "LifeKeys" (137 : Nat) ({ cls := "LifeKeys", name := "byteOf", desc := "(IIIIII)I" } : Jvm.MethodName)) ∈ lw_all := lw_g (lw_at lw_m2 58 rfl) rfl
theorem q381 : (Jvm.Cond.static ({ cls := "LifeKeys", name := "byteOf", desc := "(IIIIII)I" } : Jvm.MethodName)) ∈ lw_all := lw_g (lw_at lw_m2 59 rfl) rfl
theorem q382 : (Jvm.Cond.code ({ cls := "LifeKeys", name := "byteOf", desc := "(IIIIII)I" } : Jvm.MethodName) prog_1_method_15_code (7 : Nat) (Option.some Jvm.ClassFile.FieldType.int)) ∈ lw_all := lw_g (lw_at lw_m2 60 rfl) rfl
theorem q384 : (Jvm.Cond.instanceMethod ({ cls := "LifeKeys", name := "end", desc := "(I)Z" } : Jvm.MethodName)) ∈ lw_all := lw_g (lw_at lw_m2 62 rfl) rfl
theorem q385 : (Jvm.Cond.selects "LifeKeys" ({ cls := "LifeKeys", name := "end", desc := "(I)Z" } : Jvm.MethodName) ({ cls := "LifeKeys", name := "end", desc := "(I)Z" } : Jvm.MethodName)) ∈ lw_all := lw_g (lw_at lw_m2 63 rfl) rfl
theorem q386 : (Jvm.Cond.code ({ cls := "LifeKeys", name := "end", desc := "(I)Z" } : Jvm.MethodName) prog_1_method_17_code (2 : Nat) (Option.some Jvm.ClassFile.FieldType.boolean)) ∈ lw_all := lw_g (lw_at lw_m2 64 rfl) rfl
theorem q388 : (Jvm.Cond.instanceMethod ({ cls := "LifeKeys", name := "make", desc := "(I)I" } : Jvm.MethodName)) ∈ lw_all := lw_g (lw_at lw_m2 66 rfl) rfl
theorem q389 : (Jvm.Cond.selects "LifeKeys" ({ cls := "LifeKeys", name := "make", desc := "(I)I" } : Jvm.MethodName) ({ cls := "LifeKeys", name := "make", desc := "(I)I" } : Jvm.MethodName)) ∈ lw_all := lw_g (lw_at lw_m2 67 rfl) rfl
theorem q390 : (Jvm.Cond.code ({ cls := "LifeKeys", name := "make", desc := "(I)I" } : Jvm.MethodName) prog_1_method_18_code (4 : Nat) (Option.some Jvm.ClassFile.FieldType.int)) ∈ lw_all := lw_g (lw_at lw_m2 68 rfl) rfl
theorem q391 : (Jvm.Cond.methodLink "LifeKeys" (144 : Nat) ({ cls := "LifeKeys", name := "isKey", desc := "(I)Z" } : Jvm.MethodName)) ∈ lw_all := lw_g (lw_at lw_m2 69 rfl) rfl
theorem q392 : (Jvm.Cond.privateMethod ({ cls := "LifeKeys", name := "isKey", desc := "(I)Z" } : Jvm.MethodName)) ∈ lw_tbl := lw_at lw_m2 70 rfl
theorem q393 : (Jvm.Cond.instanceMethod ({ cls := "LifeKeys", name := "isKey", desc := "(I)Z" } : Jvm.MethodName)) ∈ lw_all := lw_g (lw_at lw_m2 71 rfl) rfl
theorem q394 : (Jvm.Cond.code ({ cls := "LifeKeys", name := "isKey", desc := "(I)Z" } : Jvm.MethodName) prog_1_method_12_code (2 : Nat) (Option.some Jvm.ClassFile.FieldType.boolean)) ∈ lw_all := lw_g (lw_at lw_m2 72 rfl) rfl
theorem q395 : (Jvm.Cond.classLink "LifeKeys" (148 : Nat) "LifeKeys$Made") ∈ lw_all := lw_g (lw_at lw_m2 73 rfl) rfl
theorem q397 : (Jvm.Cond.methodLink "LifeKeys" (150 : Nat) ({ cls := "LifeKeys$Made", name := "<init>", desc := "(ILLifeKeys$Root;II)V" } : Jvm.MethodName)) ∈ lw_all := lw_g (lw_at lw_m2 75 rfl) rfl
theorem q418 : (Jvm.Cond.instanceMethod ({ cls := "LifeKeys", name := "told", desc := "(II)I" } : Jvm.MethodName)) ∈ lw_all := lw_g (lw_at lw_m2 96 rfl) rfl
theorem q419 : (Jvm.Cond.selects "LifeKeys" ({ cls := "LifeKeys", name := "told", desc := "(II)I" } : Jvm.MethodName) ({ cls := "LifeKeys", name := "told", desc := "(II)I" } : Jvm.MethodName)) ∈ lw_all := lw_g (lw_at lw_m2 97 rfl) rfl
theorem q420 : (Jvm.Cond.code ({ cls := "LifeKeys", name := "told", desc := "(II)I" } : Jvm.MethodName) prog_1_method_20_code (4 : Nat) (Option.some Jvm.ClassFile.FieldType.int)) ∈ lw_all := lw_g (lw_at lw_m2 98 rfl) rfl
theorem q421 : (Jvm.Cond.methodLink "LifeKeys" (162 : Nat) ({ cls := "LifeKeys$Key", name := "sort", desc := "()I" } : Jvm.MethodName)) ∈ lw_all := lw_g (lw_at lw_m2 99 rfl) rfl
theorem q433 : (Jvm.Cond.methodLink "LifeKeys" (166 : Nat) ({ cls := "LifeKeys$Key", name := "root", desc := "()I" } : Jvm.MethodName)) ∈ lw_all := lw_g (lw_at lw_m2 111 rfl) rfl
theorem q442 : (Jvm.Cond.methodLink "LifeKeys" (169 : Nat) ({ cls := "LifeKeys$Key", name := "burntFrom", desc := "(I)I" } : Jvm.MethodName)) ∈ lw_all := lw_g (lw_at lw_m2 120 rfl) rfl
theorem q449 : (Jvm.Cond.methodLink "LifeKeys" (175 : Nat) ({ cls := "LifeKeys", name := "partedLast", desc := "(LLifeKeys$Key;)I" } : Jvm.MethodName)) ∈ lw_all := lw_g (lw_at lw_m2 127 rfl) rfl
theorem q450 : (Jvm.Cond.privateMethod ({ cls := "LifeKeys", name := "partedLast", desc := "(LLifeKeys$Key;)I" } : Jvm.MethodName)) ∈ lw_tbl := lw_at lw_m2 128 rfl
theorem q451 : (Jvm.Cond.instanceMethod ({ cls := "LifeKeys", name := "partedLast", desc := "(LLifeKeys$Key;)I" } : Jvm.MethodName)) ∈ lw_all := lw_g (lw_at lw_m2 129 rfl) rfl
theorem q452 : (Jvm.Cond.code ({ cls := "LifeKeys", name := "partedLast", desc := "(LLifeKeys$Key;)I" } : Jvm.MethodName) prog_1_method_30_code (3 : Nat) (Option.some Jvm.ClassFile.FieldType.int)) ∈ lw_all := lw_g (lw_at lw_m2 130 rfl) rfl
theorem q454 : (Jvm.Cond.instanceMethod ({ cls := "LifeKeys", name := "give", desc := "(II)Z" } : Jvm.MethodName)) ∈ lw_all := lw_g (lw_at lw_m2 132 rfl) rfl
theorem q455 : (Jvm.Cond.selects "LifeKeys" ({ cls := "LifeKeys", name := "give", desc := "(II)Z" } : Jvm.MethodName) ({ cls := "LifeKeys", name := "give", desc := "(II)Z" } : Jvm.MethodName)) ∈ lw_all := lw_g (lw_at lw_m2 133 rfl) rfl
theorem q456 : (Jvm.Cond.code ({ cls := "LifeKeys", name := "give", desc := "(II)Z" } : Jvm.MethodName) prog_1_method_22_code (3 : Nat) (Option.some Jvm.ClassFile.FieldType.boolean)) ∈ lw_all := lw_g (lw_at lw_m2 134 rfl) rfl
theorem q457 : (Jvm.Cond.methodLink "LifeKeys" (199 : Nat) ({ cls := "LifeKeys", name := "isHolde\x72", desc := "(I)Z" } : Jvm.MethodName)) ∈ lw_all := lw_g (lw_at lw_m2 135 rfl) rfl
theorem q458 : (Jvm.Cond.privateMethod ({ cls := "LifeKeys", name := "isHolde\x72", desc := "(I)Z" } : Jvm.MethodName)) ∈ lw_tbl := lw_at lw_m2 136 rfl
theorem q459 : (Jvm.Cond.instanceMethod ({ cls := "LifeKeys", name := "isHolde\x72", desc := "(I)Z" } : Jvm.MethodName)) ∈ lw_all := lw_g (lw_at lw_m2 137 rfl) rfl
theorem q460 : (Jvm.Cond.code ({ cls := "LifeKeys", name := "isHolde\x72", desc := "(I)Z" } : Jvm.MethodName) prog_1_method_5_code (2 : Nat) (Option.some Jvm.ClassFile.FieldType.boolean)) ∈ lw_all := lw_g (lw_at lw_m2 138 rfl) rfl
theorem q461 : (Jvm.Cond.methodLink "LifeKeys" (202 : Nat) ({ cls := "LifeKeys", name := "held", desc := "(II)LLifeKeys$Held;" } : Jvm.MethodName)) ∈ lw_all := lw_g (lw_at lw_m2 139 rfl) rfl
theorem q462 : (Jvm.Cond.privateMethod ({ cls := "LifeKeys", name := "held", desc := "(II)LLifeKeys$Held;" } : Jvm.MethodName)) ∈ lw_tbl := lw_at lw_m2 140 rfl
theorem q463 : (Jvm.Cond.instanceMethod ({ cls := "LifeKeys", name := "held", desc := "(II)LLifeKeys$Held;" } : Jvm.MethodName)) ∈ lw_all := lw_g (lw_at lw_m2 141 rfl) rfl
theorem q464 : (Jvm.Cond.code ({ cls := "LifeKeys", name := "held", desc := "(II)LLifeKeys$Held;" } : Jvm.MethodName) prog_1_method_21_code (4 : Nat) (Option.some (Jvm.ClassFile.FieldType.object "LifeKeys$Held"))) ∈ lw_all := lw_g (lw_at lw_m2 142 rfl) rfl
theorem q465 : (Jvm.Cond.classLink "LifeKeys" (182 : Nat) "LifeKeys$Held") ∈ lw_all := lw_g (lw_at lw_m2 143 rfl) rfl
theorem q466 : (Jvm.Cond.methodLink "LifeKeys" (193 : Nat) ({ cls := "LifeKeys$Way", name := "isOn", desc := "(I)Z" } : Jvm.MethodName)) ∈ lw_all := lw_g (lw_at lw_m2 144 rfl) rfl
theorem q474 : (Jvm.Cond.methodLink "LifeKeys" (206 : Nat) ({ cls := "LifeKeys$Held", name := "<init>", desc := "(ILLifeKeys$Key;LLifeKeys$Way;I)V" } : Jvm.MethodName)) ∈ lw_all := lw_g (lw_at lw_m2 152 rfl) rfl
theorem q482 : (Jvm.Cond.fieldLinkNest "LifeKeys" (184 : Nat) "LifeKeys$Held" "holde\x72" "I" "LifeKeys") ∈ lw_tbl := lw_at lw_m2 160 rfl
theorem q485 : (Jvm.Cond.fieldLink "LifeKeys" (187 : Nat) "LifeKeys$Way" "key" "LLifeKeys$Key;") ∈ lw_all := lw_g (lw_at lw_m2 163 rfl) rfl
theorem q486 : (Jvm.Cond.fieldLink "LifeKeys" (241 : Nat) "LifeKeys$Parting" "key" "LLifeKeys$Key;") ∈ lw_all := lw_g (lw_at lw_m2 164 rfl) rfl
theorem q488 : (Jvm.Cond.fieldLink "LifeKeys" (510 : Nat) "LifeKeys$Wrap" "key" "LLifeKeys$Key;") ∈ lw_all := lw_g (lw_at lw_m2 166 rfl) rfl
theorem q491 : (Jvm.Cond.fieldLink "LifeKeys" (196 : Nat) "LifeKeys$Way" "before" "LLifeKeys$Way;") ∈ lw_all := lw_g (lw_at lw_m2 169 rfl) rfl
theorem q493 : (Jvm.Cond.fieldLink "LifeKeys" (209 : Nat) "LifeKeys$Held" "to" "I") ∈ lw_all := lw_g (lw_at lw_m2 171 rfl) rfl
theorem q495 : (Jvm.Cond.fieldLink "LifeKeys" (218 : Nat) "LifeKeys$Wrap" "to" "I") ∈ lw_all := lw_g (lw_at lw_m2 173 rfl) rfl
theorem q497 : (Jvm.Cond.fieldLink "LifeKeys" (240 : Nat) "LifeKeys$Parting" "to" "I") ∈ lw_all := lw_g (lw_at lw_m2 175 rfl) rfl
theorem q511 : (Jvm.Cond.instanceMethod ({ cls := "LifeKeys", name := "take", desc := "(II)Z" } : Jvm.MethodName)) ∈ lw_all := lw_g (lw_at lw_m2 189 rfl) rfl
theorem q512 : (Jvm.Cond.selects "LifeKeys" ({ cls := "LifeKeys", name := "take", desc := "(II)Z" } : Jvm.MethodName) ({ cls := "LifeKeys", name := "take", desc := "(II)Z" } : Jvm.MethodName)) ∈ lw_all := lw_g (lw_at lw_m2 190 rfl) rfl
theorem q513 : (Jvm.Cond.code ({ cls := "LifeKeys", name := "take", desc := "(II)Z" } : Jvm.MethodName) prog_1_method_23_code (4 : Nat) (Option.some Jvm.ClassFile.FieldType.boolean)) ∈ lw_all := lw_g (lw_at lw_m2 191 rfl) rfl
theorem q515 : (Jvm.Cond.instanceMethod ({ cls := "LifeKeys", name := "wrap", desc := "(II)I" } : Jvm.MethodName)) ∈ lw_all := lw_g (lw_at lw_m2 193 rfl) rfl
theorem q516 : (Jvm.Cond.selects "LifeKeys" ({ cls := "LifeKeys", name := "wrap", desc := "(II)I" } : Jvm.MethodName) ({ cls := "LifeKeys", name := "wrap", desc := "(II)I" } : Jvm.MethodName)) ∈ lw_all := lw_g (lw_at lw_m2 194 rfl) rfl
theorem q517 : (Jvm.Cond.code ({ cls := "LifeKeys", name := "wrap", desc := "(II)I" } : Jvm.MethodName) prog_1_method_24_code (3 : Nat) (Option.some Jvm.ClassFile.FieldType.int)) ∈ lw_all := lw_g (lw_at lw_m2 195 rfl) rfl
theorem q519 : (Jvm.Cond.methodLink "LifeKeys" (215 : Nat) ({ cls := "LifeKeys$Wrap", name := "<init>", desc := "(ILLifeKeys$Key;LLifeKeys$Way;LLifeKeys$Key;)V" } : Jvm.MethodName)) ∈ lw_all := lw_g (lw_at lw_m2 197 rfl) rfl
theorem q524 : (Jvm.Cond.fieldLinkNest "LifeKeys" (512 : Nat) "LifeKeys$Wrap" "oute\x72" "LLifeKeys$Key;" "LifeKeys") ∈ lw_tbl := lw_at lw_m2 202 rfl
theorem q533 : (Jvm.Cond.instanceMethod ({ cls := "LifeKeys", name := "cut", desc := "(I)Z" } : Jvm.MethodName)) ∈ lw_all := lw_g (lw_at lw_m2 211 rfl) rfl
theorem q534 : (Jvm.Cond.selects "LifeKeys" ({ cls := "LifeKeys", name := "cut", desc := "(I)Z" } : Jvm.MethodName) ({ cls := "LifeKeys", name := "cut", desc := "(I)Z" } : Jvm.MethodName)) ∈ lw_all := lw_g (lw_at lw_m2 212 rfl) rfl
theorem q535 : (Jvm.Cond.code ({ cls := "LifeKeys", name := "cut", desc := "(I)Z" } : Jvm.MethodName) prog_1_method_25_code (2 : Nat) (Option.some Jvm.ClassFile.FieldType.boolean)) ∈ lw_all := lw_g (lw_at lw_m2 213 rfl) rfl
theorem q537 : (Jvm.Cond.instanceMethod ({ cls := "LifeKeys", name := "part", desc := "(IIIJ)I" } : Jvm.MethodName)) ∈ lw_all := lw_g (lw_at lw_m2 215 rfl) rfl
theorem q538 : (Jvm.Cond.selects "LifeKeys" ({ cls := "LifeKeys", name := "part", desc := "(IIIJ)I" } : Jvm.MethodName) ({ cls := "LifeKeys", name := "part", desc := "(IIIJ)I" } : Jvm.MethodName)) ∈ lw_all := lw_g (lw_at lw_m2 216 rfl) rfl
theorem q539 : (Jvm.Cond.code ({ cls := "LifeKeys", name := "part", desc := "(IIIJ)I" } : Jvm.MethodName) prog_1_method_27_code (6 : Nat) (Option.some Jvm.ClassFile.FieldType.int)) ∈ lw_all := lw_g (lw_at lw_m2 217 rfl) rfl
theorem q540 : (Jvm.Cond.methodLink "LifeKeys" (225 : Nat) ({ cls := "LifeKeys", name := "areHolders", desc := "(I)Z" } : Jvm.MethodName)) ∈ lw_all := lw_g (lw_at lw_m2 218 rfl) rfl
theorem q541 : (Jvm.Cond.privateMethod ({ cls := "LifeKeys", name := "areHolders", desc := "(I)Z" } : Jvm.MethodName)) ∈ lw_tbl := lw_at lw_m2 219 rfl
theorem q542 : (Jvm.Cond.instanceMethod ({ cls := "LifeKeys", name := "areHolders", desc := "(I)Z" } : Jvm.MethodName)) ∈ lw_all := lw_g (lw_at lw_m2 220 rfl) rfl
theorem q543 : (Jvm.Cond.code ({ cls := "LifeKeys", name := "areHolders", desc := "(I)Z" } : Jvm.MethodName) prog_1_method_6_code (2 : Nat) (Option.some Jvm.ClassFile.FieldType.boolean)) ∈ lw_all := lw_g (lw_at lw_m2 221 rfl) rfl
theorem q544 : (Jvm.Cond.methodLink "LifeKeys" (228 : Nat) ({ cls := "java/lang/Intege\x72", name := "bitCount", desc := "(I)I" } : Jvm.MethodName)) ∈ lw_all := lw_g (lw_at lw_m2 222 rfl) rfl
theorem q550 : (Jvm.Cond.methodLink "LifeKeys" (233 : Nat) ({ cls := "LifeKeys", name := "part", desc := "(LLifeKeys$Key;IIJ)I" } : Jvm.MethodName)) ∈ lw_all := lw_g (lw_at lw_m2 228 rfl) rfl
theorem q551 : (Jvm.Cond.privateMethod ({ cls := "LifeKeys", name := "part", desc := "(LLifeKeys$Key;IIJ)I" } : Jvm.MethodName)) ∈ lw_tbl := lw_at lw_m2 229 rfl
theorem q552 : (Jvm.Cond.instanceMethod ({ cls := "LifeKeys", name := "part", desc := "(LLifeKeys$Key;IIJ)I" } : Jvm.MethodName)) ∈ lw_all := lw_g (lw_at lw_m2 230 rfl) rfl
theorem q553 : (Jvm.Cond.code ({ cls := "LifeKeys", name := "part", desc := "(LLifeKeys$Key;IIJ)I" } : Jvm.MethodName) prog_1_method_26_code (6 : Nat) (Option.some Jvm.ClassFile.FieldType.int)) ∈ lw_all := lw_g (lw_at lw_m2 231 rfl) rfl
theorem q555 : (Jvm.Cond.methodLink "LifeKeys" (222 : Nat) ({ cls := "LifeKeys$Parting", name := "<init>", desc := "(ILLifeKeys$Key;LLifeKeys$Way;IIIJ)V" } : Jvm.MethodName)) ∈ lw_all := lw_g (lw_at lw_m2 233 rfl) rfl
theorem q560 : (Jvm.Cond.static ({ cls := "LifeKeys", name := "next", desc := "(J)J" } : Jvm.MethodName)) ∈ lw_all := lw_g (lw_at lw_m2 238 rfl) rfl
theorem q561 : (Jvm.Cond.code ({ cls := "LifeKeys", name := "next", desc := "(J)J" } : Jvm.MethodName) prog_1_method_10_code (2 : Nat) (Option.some Jvm.ClassFile.FieldType.long)) ∈ lw_all := lw_g (lw_at lw_m2 239 rfl) rfl
theorem q562 : (Jvm.Cond.constantLong "LifeKeys" (111 : Nat) (6364136223846793005 : Int64)) ∈ lw_all := lw_g (lw_at lw_m3 0 rfl) rfl
theorem q563 : (Jvm.Cond.constantLong "LifeKeys" (113 : Nat) (1442695040888963407 : Int64)) ∈ lw_all := lw_g (lw_at lw_m3 1 rfl) rfl
theorem q567 : (Jvm.Cond.fieldLinkNest "LifeKeys" (242 : Nat) "LifeKeys$Parting" "of" "I" "LifeKeys") ∈ lw_tbl := lw_at lw_m3 5 rfl
theorem q569 : (Jvm.Cond.fieldLinkNest "LifeKeys" (258 : Nat) "LifeKeys$Parting" "curve" "[I" "LifeKeys") ∈ lw_tbl := lw_at lw_m3 7 rfl
theorem q571 : (Jvm.Cond.fieldLinkNest "LifeKeys" (245 : Nat) "LifeKeys$Parting" "need" "I" "LifeKeys") ∈ lw_tbl := lw_at lw_m3 9 rfl
theorem q586 : (Jvm.Cond.instanceMethod ({ cls := "LifeKeys", name := "again", desc := "(IJ)I" } : Jvm.MethodName)) ∈ lw_all := lw_g (lw_at lw_m3 24 rfl) rfl
theorem q587 : (Jvm.Cond.selects "LifeKeys" ({ cls := "LifeKeys", name := "again", desc := "(IJ)I" } : Jvm.MethodName) ({ cls := "LifeKeys", name := "again", desc := "(IJ)I" } : Jvm.MethodName)) ∈ lw_all := lw_g (lw_at lw_m3 25 rfl) rfl
theorem q588 : (Jvm.Cond.code ({ cls := "LifeKeys", name := "again", desc := "(IJ)I" } : Jvm.MethodName) prog_1_method_29_code (5 : Nat) (Option.some Jvm.ClassFile.FieldType.int)) ∈ lw_all := lw_g (lw_at lw_m3 26 rfl) rfl
theorem q589 : (Jvm.Cond.methodLink "LifeKeys" (237 : Nat) ({ cls := "LifeKeys", name := "isParting", desc := "(I)Z" } : Jvm.MethodName)) ∈ lw_all := lw_g (lw_at lw_m3 27 rfl) rfl
theorem q590 : (Jvm.Cond.privateMethod ({ cls := "LifeKeys", name := "isParting", desc := "(I)Z" } : Jvm.MethodName)) ∈ lw_tbl := lw_at lw_m3 28 rfl
theorem q591 : (Jvm.Cond.instanceMethod ({ cls := "LifeKeys", name := "isParting", desc := "(I)Z" } : Jvm.MethodName)) ∈ lw_all := lw_g (lw_at lw_m3 29 rfl) rfl
theorem q592 : (Jvm.Cond.code ({ cls := "LifeKeys", name := "isParting", desc := "(I)Z" } : Jvm.MethodName) prog_1_method_28_code (2 : Nat) (Option.some Jvm.ClassFile.FieldType.boolean)) ∈ lw_all := lw_g (lw_at lw_m3 30 rfl) rfl
theorem q594 : (Jvm.Cond.instanceMethod ({ cls := "LifeKeys", name := "piece", desc := "(II)I" } : Jvm.MethodName)) ∈ lw_all := lw_g (lw_at lw_m3 32 rfl) rfl
theorem q595 : (Jvm.Cond.selects "LifeKeys" ({ cls := "LifeKeys", name := "piece", desc := "(II)I" } : Jvm.MethodName) ({ cls := "LifeKeys", name := "piece", desc := "(II)I" } : Jvm.MethodName)) ∈ lw_all := lw_g (lw_at lw_m3 33 rfl) rfl
theorem q596 : (Jvm.Cond.code ({ cls := "LifeKeys", name := "piece", desc := "(II)I" } : Jvm.MethodName) prog_1_method_32_code (3 : Nat) (Option.some Jvm.ClassFile.FieldType.int)) ∈ lw_all := lw_g (lw_at lw_m3 34 rfl) rfl
theorem q597 : (Jvm.Cond.methodLink "LifeKeys" (251 : Nat) ({ cls := "LifeKeys", name := "isPieceOf", desc := "(II)Z" } : Jvm.MethodName)) ∈ lw_all := lw_g (lw_at lw_m3 35 rfl) rfl
theorem q598 : (Jvm.Cond.privateMethod ({ cls := "LifeKeys", name := "isPieceOf", desc := "(II)Z" } : Jvm.MethodName)) ∈ lw_tbl := lw_at lw_m3 36 rfl
theorem q599 : (Jvm.Cond.instanceMethod ({ cls := "LifeKeys", name := "isPieceOf", desc := "(II)Z" } : Jvm.MethodName)) ∈ lw_all := lw_g (lw_at lw_m3 37 rfl) rfl
theorem q600 : (Jvm.Cond.code ({ cls := "LifeKeys", name := "isPieceOf", desc := "(II)Z" } : Jvm.MethodName) prog_1_method_31_code (3 : Nat) (Option.some Jvm.ClassFile.FieldType.boolean)) ∈ lw_all := lw_g (lw_at lw_m3 38 rfl) rfl
theorem q601 : (Jvm.Cond.methodLink "LifeKeys" (248 : Nat) ({ cls := "LifeKeys$Parting", name := "has", desc := "(I)Z" } : Jvm.MethodName)) ∈ lw_all := lw_g (lw_at lw_m3 39 rfl) rfl
theorem q605 : (Jvm.Cond.methodLink "LifeKeys" (255 : Nat) ({ cls := "LifeKeys$Parting", name := "piece", desc := "(I)I" } : Jvm.MethodName)) ∈ lw_all := lw_g (lw_at lw_m3 43 rfl) rfl
theorem q610 : (Jvm.Cond.instanceMethod ({ cls := "LifeKeys", name := "checks", desc := "(II)I" } : Jvm.MethodName)) ∈ lw_all := lw_g (lw_at lw_m3 48 rfl) rfl
theorem q611 : (Jvm.Cond.selects "LifeKeys" ({ cls := "LifeKeys", name := "checks", desc := "(II)I" } : Jvm.MethodName) ({ cls := "LifeKeys", name := "checks", desc := "(II)I" } : Jvm.MethodName)) ∈ lw_all := lw_g (lw_at lw_m3 49 rfl) rfl
theorem q612 : (Jvm.Cond.code ({ cls := "LifeKeys", name := "checks", desc := "(II)I" } : Jvm.MethodName) prog_1_method_33_code (3 : Nat) (Option.some Jvm.ClassFile.FieldType.int)) ∈ lw_all := lw_g (lw_at lw_m3 50 rfl) rfl
theorem q613 : (Jvm.Cond.methodLink "LifeKeys" (261 : Nat) ({ cls := "LifeKeys$Parting", name := "check", desc := "(I)I" } : Jvm.MethodName)) ∈ lw_all := lw_g (lw_at lw_m3 51 rfl) rfl
theorem q618 : (Jvm.Cond.static ({ cls := "LifeKeys", name := "powe\x72", desc := "(II)I" } : Jvm.MethodName)) ∈ lw_all := lw_g (lw_at lw_m3 56 rfl) rfl
theorem q619 : (Jvm.Cond.code ({ cls := "LifeKeys", name := "powe\x72", desc := "(II)I" } : Jvm.MethodName) prog_1_method_8_code (5 : Nat) (Option.some Jvm.ClassFile.FieldType.int)) ∈ lw_all := lw_g (lw_at lw_m3 57 rfl) rfl
theorem q621 : (Jvm.Cond.instanceMethod ({ cls := "LifeKeys", name := "fits", desc := "(III)I" } : Jvm.MethodName)) ∈ lw_all := lw_g (lw_at lw_m3 59 rfl) rfl
theorem q622 : (Jvm.Cond.selects "LifeKeys" ({ cls := "LifeKeys", name := "fits", desc := "(III)I" } : Jvm.MethodName) ({ cls := "LifeKeys", name := "fits", desc := "(III)I" } : Jvm.MethodName)) ∈ lw_all := lw_g (lw_at lw_m3 60 rfl) rfl
theorem q623 : (Jvm.Cond.code ({ cls := "LifeKeys", name := "fits", desc := "(III)I" } : Jvm.MethodName) prog_1_method_34_code (4 : Nat) (Option.some Jvm.ClassFile.FieldType.int)) ∈ lw_all := lw_g (lw_at lw_m3 61 rfl) rfl
theorem q624 : (Jvm.Cond.methodLink "LifeKeys" (159 : Nat) ({ cls := "LifeKeys", name := "powe\x72", desc := "(II)I" } : Jvm.MethodName)) ∈ lw_all := lw_g (lw_at lw_m3 62 rfl) rfl
theorem q625 : (Jvm.Cond.methodLink "LifeKeys" (264 : Nat) ({ cls := "LifeKeys$Parting", name := "open", desc := "(I)I" } : Jvm.MethodName)) ∈ lw_all := lw_g (lw_at lw_m3 63 rfl) rfl
theorem q631 : (Jvm.Cond.instanceMethod ({ cls := "LifeKeys", name := "lay", desc := "(II)I" } : Jvm.MethodName)) ∈ lw_all := lw_g (lw_at lw_m3 69 rfl) rfl
theorem q632 : (Jvm.Cond.selects "LifeKeys" ({ cls := "LifeKeys", name := "lay", desc := "(II)I" } : Jvm.MethodName) ({ cls := "LifeKeys", name := "lay", desc := "(II)I" } : Jvm.MethodName)) ∈ lw_all := lw_g (lw_at lw_m3 70 rfl) rfl
theorem q633 : (Jvm.Cond.code ({ cls := "LifeKeys", name := "lay", desc := "(II)I" } : Jvm.MethodName) prog_1_method_35_code (3 : Nat) (Option.some Jvm.ClassFile.FieldType.int)) ∈ lw_all := lw_g (lw_at lw_m3 71 rfl) rfl
theorem q635 : (Jvm.Cond.instanceMethod ({ cls := "LifeKeys", name := "join", desc := "()I" } : Jvm.MethodName)) ∈ lw_all := lw_g (lw_at lw_m3 73 rfl) rfl
theorem q636 : (Jvm.Cond.selects "LifeKeys" ({ cls := "LifeKeys", name := "join", desc := "()I" } : Jvm.MethodName) ({ cls := "LifeKeys", name := "join", desc := "()I" } : Jvm.MethodName)) ∈ lw_all := lw_g (lw_at lw_m3 74 rfl) rfl
theorem q637 : (Jvm.Cond.code ({ cls := "LifeKeys", name := "join", desc := "()I" } : Jvm.MethodName) prog_1_method_36_code (3 : Nat) (Option.some Jvm.ClassFile.FieldType.int)) ∈ lw_all := lw_g (lw_at lw_m3 75 rfl) rfl
theorem q638 : (Jvm.Cond.methodLink "LifeKeys" (270 : Nat) ({ cls := "LifeKeys", name := "weight", desc := "(II)I" } : Jvm.MethodName)) ∈ lw_all := lw_g (lw_at lw_m3 76 rfl) rfl
theorem q639 : (Jvm.Cond.static ({ cls := "LifeKeys", name := "weight", desc := "(II)I" } : Jvm.MethodName)) ∈ lw_all := lw_g (lw_at lw_m3 77 rfl) rfl
theorem q640 : (Jvm.Cond.code ({ cls := "LifeKeys", name := "weight", desc := "(II)I" } : Jvm.MethodName) prog_1_method_11_code (4 : Nat) (Option.some Jvm.ClassFile.FieldType.int)) ∈ lw_all := lw_g (lw_at lw_m3 78 rfl) rfl
theorem q641 : (Jvm.Cond.methodLink "LifeKeys" (115 : Nat) ({ cls := "LifeKeys", name := "inverse", desc := "(I)I" } : Jvm.MethodName)) ∈ lw_all := lw_g (lw_at lw_m3 79 rfl) rfl
theorem q642 : (Jvm.Cond.static ({ cls := "LifeKeys", name := "inverse", desc := "(I)I" } : Jvm.MethodName)) ∈ lw_all := lw_g (lw_at lw_m3 80 rfl) rfl
theorem q643 : (Jvm.Cond.code ({ cls := "LifeKeys", name := "inverse", desc := "(I)I" } : Jvm.MethodName) prog_1_method_9_code (4 : Nat) (Option.some Jvm.ClassFile.FieldType.int)) ∈ lw_all := lw_g (lw_at lw_m3 81 rfl) rfl
theorem q644 : (Jvm.Cond.methodLink "LifeKeys" (105 : Nat) ({ cls := "java/lang/Math", name := "floorMod", desc := "(II)I" } : Jvm.MethodName)) ∈ lw_all := lw_g (lw_at lw_m3 82 rfl) rfl
theorem q646 : (Jvm.Cond.instanceMethod ({ cls := "LifeKeys", name := "left", desc := "(II)I" } : Jvm.MethodName)) ∈ lw_all := lw_g (lw_at lw_m3 84 rfl) rfl
theorem q647 : (Jvm.Cond.selects "LifeKeys" ({ cls := "LifeKeys", name := "left", desc := "(II)I" } : Jvm.MethodName) ({ cls := "LifeKeys", name := "left", desc := "(II)I" } : Jvm.MethodName)) ∈ lw_all := lw_g (lw_at lw_m3 85 rfl) rfl
theorem q648 : (Jvm.Cond.code ({ cls := "LifeKeys", name := "left", desc := "(II)I" } : Jvm.MethodName) prog_1_method_37_code (3 : Nat) (Option.some Jvm.ClassFile.FieldType.int)) ∈ lw_all := lw_g (lw_at lw_m3 86 rfl) rfl
theorem q649 : (Jvm.Cond.methodLink "LifeKeys" (273 : Nat) ({ cls := "java/lang/Math", name := "max", desc := "(II)I" } : Jvm.MethodName)) ∈ lw_all := lw_g (lw_at lw_m3 87 rfl) rfl
theorem q653 : (Jvm.Cond.instanceMethod ({ cls := "LifeKeys", name := "got", desc := "(II)J" } : Jvm.MethodName)) ∈ lw_all := lw_g (lw_at lw_m3 91 rfl) rfl
theorem q654 : (Jvm.Cond.selects "LifeKeys" ({ cls := "LifeKeys", name := "got", desc := "(II)J" } : Jvm.MethodName) ({ cls := "LifeKeys", name := "got", desc := "(II)J" } : Jvm.MethodName)) ∈ lw_all := lw_g (lw_at lw_m3 92 rfl) rfl
theorem q655 : (Jvm.Cond.code ({ cls := "LifeKeys", name := "got", desc := "(II)J" } : Jvm.MethodName) prog_1_method_39_code (3 : Nat) (Option.some Jvm.ClassFile.FieldType.long)) ∈ lw_all := lw_g (lw_at lw_m3 93 rfl) rfl
theorem q656 : (Jvm.Cond.methodLink "LifeKeys" (287 : Nat) ({ cls := "LifeKeys", name := "isKnowing", desc := "(I)Z" } : Jvm.MethodName)) ∈ lw_all := lw_g (lw_at lw_m3 94 rfl) rfl
theorem q657 : (Jvm.Cond.privateMethod ({ cls := "LifeKeys", name := "isKnowing", desc := "(I)Z" } : Jvm.MethodName)) ∈ lw_tbl := lw_at lw_m3 95 rfl
theorem q658 : (Jvm.Cond.instanceMethod ({ cls := "LifeKeys", name := "isKnowing", desc := "(I)Z" } : Jvm.MethodName)) ∈ lw_all := lw_g (lw_at lw_m3 96 rfl) rfl
theorem q659 : (Jvm.Cond.code ({ cls := "LifeKeys", name := "isKnowing", desc := "(I)Z" } : Jvm.MethodName) prog_1_method_4_code (2 : Nat) (Option.some Jvm.ClassFile.FieldType.boolean)) ∈ lw_all := lw_g (lw_at lw_m3 97 rfl) rfl
theorem q660 : (Jvm.Cond.methodLink "LifeKeys" (290 : Nat) ({ cls := "LifeKeys", name := "gotBy", desc := "(II)J" } : Jvm.MethodName)) ∈ lw_all := lw_g (lw_at lw_m3 98 rfl) rfl
theorem q661 : (Jvm.Cond.privateMethod ({ cls := "LifeKeys", name := "gotBy", desc := "(II)J" } : Jvm.MethodName)) ∈ lw_tbl := lw_at lw_m3 99 rfl
theorem q662 : (Jvm.Cond.instanceMethod ({ cls := "LifeKeys", name := "gotBy", desc := "(II)J" } : Jvm.MethodName)) ∈ lw_all := lw_g (lw_at lw_m3 100 rfl) rfl
theorem q663 : (Jvm.Cond.code ({ cls := "LifeKeys", name := "gotBy", desc := "(II)J" } : Jvm.MethodName) prog_1_method_38_code (9 : Nat) (Option.some Jvm.ClassFile.FieldType.long)) ∈ lw_all := lw_g (lw_at lw_m3 101 rfl) rfl
theorem q664 : (Jvm.Cond.methodLink "LifeKeys" (276 : Nat) ({ cls := "LifeKeys$Way", name := "leads", desc := "(IJ)Z" } : Jvm.MethodName)) ∈ lw_all := lw_g (lw_at lw_m3 102 rfl) rfl
theorem q677 : (Jvm.Cond.methodLink "LifeKeys" (283 : Nat) ({ cls := "LifeKeys$Key", name := "comesOf", desc := "(J)Z" } : Jvm.MethodName)) ∈ lw_all := lw_g (lw_at lw_m3 115 rfl) rfl
theorem q686 : (Jvm.Cond.constantLong "LifeKeys" (294 : Nat) (-1 : Int64)) ∈ lw_all := lw_g (lw_at lw_m3 124 rfl) rfl
theorem q688 : (Jvm.Cond.instanceMethod ({ cls := "LifeKeys", name := "fault", desc := "()I" } : Jvm.MethodName)) ∈ lw_all := lw_g (lw_at lw_m3 126 rfl) rfl
theorem q689 : (Jvm.Cond.selects "LifeKeys" ({ cls := "LifeKeys", name := "fault", desc := "()I" } : Jvm.MethodName) ({ cls := "LifeKeys", name := "fault", desc := "()I" } : Jvm.MethodName)) ∈ lw_all := lw_g (lw_at lw_m3 127 rfl) rfl
theorem q690 : (Jvm.Cond.codeWith ({ cls := "LifeKeys", name := "fault", desc := "()I" } : Jvm.MethodName) prog_1_method_51_code (2 : Nat) (Option.some Jvm.ClassFile.FieldType.int) [((0 : Nat), (6 : Nat), (7 : Nat), (35 : Nat))]) ∈ lw_all := lw_g (lw_at lw_m3 128 rfl) rfl
theorem q691 : (Jvm.Cond.methodLink "LifeKeys" (346 : Nat) ({ cls := "LifeKeys", name := "whole", desc := "()LLifeKeys$Test;" } : Jvm.MethodName)) ∈ lw_all := lw_g (lw_at lw_m3 129 rfl) rfl
theorem q692 : (Jvm.Cond.privateMethod ({ cls := "LifeKeys", name := "whole", desc := "()LLifeKeys$Test;" } : Jvm.MethodName)) ∈ lw_tbl := lw_at lw_m3 130 rfl
theorem q693 : (Jvm.Cond.instanceMethod ({ cls := "LifeKeys", name := "whole", desc := "()LLifeKeys$Test;" } : Jvm.MethodName)) ∈ lw_all := lw_g (lw_at lw_m3 131 rfl) rfl
theorem q694 : (Jvm.Cond.code ({ cls := "LifeKeys", name := "whole", desc := "()LLifeKeys$Test;" } : Jvm.MethodName) prog_1_method_50_code (2 : Nat) (Option.some (Jvm.ClassFile.FieldType.object "LifeKeys$Test"))) ∈ lw_all := lw_g (lw_at lw_m3 132 rfl) rfl
theorem q695 : (Jvm.Cond.methodLink "LifeKeys" (323 : Nat) ({ cls := "LifeKeys", name := "any", desc := "()LLifeKeys$Test;" } : Jvm.MethodName)) ∈ lw_all := lw_g (lw_at lw_m3 133 rfl) rfl
theorem q696 : (Jvm.Cond.privateMethod ({ cls := "LifeKeys", name := "any", desc := "()LLifeKeys$Test;" } : Jvm.MethodName)) ∈ lw_tbl := lw_at lw_m3 134 rfl
theorem q697 : (Jvm.Cond.instanceMethod ({ cls := "LifeKeys", name := "any", desc := "()LLifeKeys$Test;" } : Jvm.MethodName)) ∈ lw_all := lw_g (lw_at lw_m3 135 rfl) rfl
theorem q698 : (Jvm.Cond.code ({ cls := "LifeKeys", name := "any", desc := "()LLifeKeys$Test;" } : Jvm.MethodName) prog_1_method_49_code (3 : Nat) (Option.some (Jvm.ClassFile.FieldType.object "LifeKeys$Test"))) ∈ lw_all := lw_g (lw_at lw_m3 136 rfl) rfl
theorem q699 : (Jvm.Cond.methodLink "LifeKeys" (343 : Nat) ({ cls := "LifeKeys", name := "all", desc := "()LLifeKeys$Test;" } : Jvm.MethodName)) ∈ lw_all := lw_g (lw_at lw_m3 137 rfl) rfl
theorem q700 : (Jvm.Cond.privateMethod ({ cls := "LifeKeys", name := "all", desc := "()LLifeKeys$Test;" } : Jvm.MethodName)) ∈ lw_tbl := lw_at lw_m3 138 rfl
theorem q701 : (Jvm.Cond.instanceMethod ({ cls := "LifeKeys", name := "all", desc := "()LLifeKeys$Test;" } : Jvm.MethodName)) ∈ lw_all := lw_g (lw_at lw_m3 139 rfl) rfl
theorem q702 : (Jvm.Cond.code ({ cls := "LifeKeys", name := "all", desc := "()LLifeKeys$Test;" } : Jvm.MethodName) prog_1_method_48_code (3 : Nat) (Option.some (Jvm.ClassFile.FieldType.object "LifeKeys$Test"))) ∈ lw_all := lw_g (lw_at lw_m3 140 rfl) rfl
theorem q703 : (Jvm.Cond.methodLink "LifeKeys" (314 : Nat) ({ cls := "LifeKeys", name := "unit", desc := "()LLifeKeys$Test;" } : Jvm.MethodName)) ∈ lw_all := lw_g (lw_at lw_m3 141 rfl) rfl
theorem q704 : (Jvm.Cond.privateMethod ({ cls := "LifeKeys", name := "unit", desc := "()LLifeKeys$Test;" } : Jvm.MethodName)) ∈ lw_tbl := lw_at lw_m3 142 rfl
theorem q705 : (Jvm.Cond.instanceMethod ({ cls := "LifeKeys", name := "unit", desc := "()LLifeKeys$Test;" } : Jvm.MethodName)) ∈ lw_all := lw_g (lw_at lw_m3 143 rfl) rfl
theorem q706 : (Jvm.Cond.code ({ cls := "LifeKeys", name := "unit", desc := "()LLifeKeys$Test;" } : Jvm.MethodName) prog_1_method_47_code (3 : Nat) (Option.some (Jvm.ClassFile.FieldType.object "LifeKeys$Test"))) ∈ lw_all := lw_g (lw_at lw_m3 144 rfl) rfl
theorem q707 : (Jvm.Cond.methodLink "LifeKeys" (305 : Nat) ({ cls := "LifeKeys", name := "look", desc := "()I" } : Jvm.MethodName)) ∈ lw_all := lw_g (lw_at lw_m3 145 rfl) rfl
theorem q708 : (Jvm.Cond.privateMethod ({ cls := "LifeKeys", name := "look", desc := "()I" } : Jvm.MethodName)) ∈ lw_tbl := lw_at lw_m3 146 rfl
theorem q709 : (Jvm.Cond.instanceMethod ({ cls := "LifeKeys", name := "look", desc := "()I" } : Jvm.MethodName)) ∈ lw_all := lw_g (lw_at lw_m3 147 rfl) rfl
theorem q710 : (Jvm.Cond.code ({ cls := "LifeKeys", name := "look", desc := "()I" } : Jvm.MethodName) prog_1_method_41_code (1 : Nat) (Option.some Jvm.ClassFile.FieldType.int)) ∈ lw_all := lw_g (lw_at lw_m3 148 rfl) rfl
theorem q711 : (Jvm.Cond.methodLink "LifeKeys" (311 : Nat) ({ cls := "LifeKeys", name := "opens", desc := "()V" } : Jvm.MethodName)) ∈ lw_all := lw_g (lw_at lw_m3 149 rfl) rfl
theorem q712 : (Jvm.Cond.privateMethod ({ cls := "LifeKeys", name := "opens", desc := "()V" } : Jvm.MethodName)) ∈ lw_tbl := lw_at lw_m3 150 rfl
theorem q713 : (Jvm.Cond.instanceMethod ({ cls := "LifeKeys", name := "opens", desc := "()V" } : Jvm.MethodName)) ∈ lw_all := lw_g (lw_at lw_m3 151 rfl) rfl
theorem q714 : (Jvm.Cond.code ({ cls := "LifeKeys", name := "opens", desc := "()V" } : Jvm.MethodName) prog_1_method_44_code (1 : Nat) (Option.none : Option Jvm.ClassFile.FieldType)) ∈ lw_all := lw_g (lw_at lw_m3 152 rfl) rfl
theorem q715 : (Jvm.Cond.methodLink "LifeKeys" (302 : Nat) ({ cls := "LifeKeys", name := "need", desc := "(Z)V" } : Jvm.MethodName)) ∈ lw_all := lw_g (lw_at lw_m3 153 rfl) rfl
theorem q716 : (Jvm.Cond.privateMethod ({ cls := "LifeKeys", name := "need", desc := "(Z)V" } : Jvm.MethodName)) ∈ lw_tbl := lw_at lw_m3 154 rfl
theorem q717 : (Jvm.Cond.instanceMethod ({ cls := "LifeKeys", name := "need", desc := "(Z)V" } : Jvm.MethodName)) ∈ lw_all := lw_g (lw_at lw_m3 155 rfl) rfl
theorem q718 : (Jvm.Cond.code ({ cls := "LifeKeys", name := "need", desc := "(Z)V" } : Jvm.MethodName) prog_1_method_43_code (2 : Nat) (Option.none : Option Jvm.ClassFile.FieldType)) ∈ lw_all := lw_g (lw_at lw_m3 156 rfl) rfl
theorem q719 : (Jvm.Cond.classLink "LifeKeys" (318 : Nat) "LifeKeys$Not") ∈ lw_all := lw_g (lw_at lw_m3 157 rfl) rfl
theorem q721 : (Jvm.Cond.methodLink "LifeKeys" (320 : Nat) ({ cls := "LifeKeys$Not", name := "<init>", desc := "(LLifeKeys$Test;)V" } : Jvm.MethodName)) ∈ lw_all := lw_g (lw_at lw_m3 159 rfl) rfl
theorem q735 : (Jvm.Cond.methodLink "LifeKeys" (326 : Nat) ({ cls := "LifeKeys", name := "closes", desc := "(I)V" } : Jvm.MethodName)) ∈ lw_all := lw_g (lw_at lw_m3 173 rfl) rfl
theorem q736 : (Jvm.Cond.privateMethod ({ cls := "LifeKeys", name := "closes", desc := "(I)V" } : Jvm.MethodName)) ∈ lw_tbl := lw_at lw_m3 174 rfl
theorem q737 : (Jvm.Cond.instanceMethod ({ cls := "LifeKeys", name := "closes", desc := "(I)V" } : Jvm.MethodName)) ∈ lw_all := lw_g (lw_at lw_m3 175 rfl) rfl
theorem q738 : (Jvm.Cond.code ({ cls := "LifeKeys", name := "closes", desc := "(I)V" } : Jvm.MethodName) prog_1_method_45_code (2 : Nat) (Option.none : Option Jvm.ClassFile.FieldType)) ∈ lw_all := lw_g (lw_at lw_m3 176 rfl) rfl
theorem q739 : (Jvm.Cond.classLink "LifeKeys" (330 : Nat) "LifeKeys$Word") ∈ lw_all := lw_g (lw_at lw_m3 177 rfl) rfl
theorem q741 : (Jvm.Cond.methodLink "LifeKeys" (332 : Nat) ({ cls := "LifeKeys", name := "numbe\x72", desc := "(I)I" } : Jvm.MethodName)) ∈ lw_all := lw_g (lw_at lw_m3 179 rfl) rfl
theorem q742 : (Jvm.Cond.privateMethod ({ cls := "LifeKeys", name := "numbe\x72", desc := "(I)I" } : Jvm.MethodName)) ∈ lw_tbl := lw_at lw_m3 180 rfl
theorem q743 : (Jvm.Cond.instanceMethod ({ cls := "LifeKeys", name := "numbe\x72", desc := "(I)I" } : Jvm.MethodName)) ∈ lw_all := lw_g (lw_at lw_m3 181 rfl) rfl
theorem q744 : (Jvm.Cond.code ({ cls := "LifeKeys", name := "numbe\x72", desc := "(I)I" } : Jvm.MethodName) prog_1_method_46_code (4 : Nat) (Option.some Jvm.ClassFile.FieldType.int)) ∈ lw_all := lw_g (lw_at lw_m3 182 rfl) rfl
theorem q745 : (Jvm.Cond.methodLink "LifeKeys" (308 : Nat) ({ cls := "LifeKeys", name := "isDigit", desc := "(I)Z" } : Jvm.MethodName)) ∈ lw_all := lw_g (lw_at lw_m3 183 rfl) rfl
theorem q746 : (Jvm.Cond.static ({ cls := "LifeKeys", name := "isDigit", desc := "(I)Z" } : Jvm.MethodName)) ∈ lw_all := lw_g (lw_at lw_m3 184 rfl) rfl
theorem q747 : (Jvm.Cond.code ({ cls := "LifeKeys", name := "isDigit", desc := "(I)Z" } : Jvm.MethodName) prog_1_method_42_code (1 : Nat) (Option.some Jvm.ClassFile.FieldType.boolean)) ∈ lw_all := lw_g (lw_at lw_m3 185 rfl) rfl
theorem q748 : (Jvm.Cond.methodLink "LifeKeys" (334 : Nat) ({ cls := "LifeKeys$Word", name := "<init>", desc := "(II)V" } : Jvm.MethodName)) ∈ lw_all := lw_g (lw_at lw_m3 186 rfl) rfl
theorem q760 : (Jvm.Cond.classLink "LifeKeys" (337 : Nat) "LifeKeys$Several") ∈ lw_all := lw_g (lw_at lw_m3 198 rfl) rfl
theorem q762 : (Jvm.Cond.methodLink "LifeKeys" (339 : Nat) ({ cls := "LifeKeys$Several", name := "<init>", desc := "(I)V" } : Jvm.MethodName)) ∈ lw_all := lw_g (lw_at lw_m3 200 rfl) rfl
theorem q780 : (Jvm.Cond.methodLink "LifeKeys" (341 : Nat) ({ cls := "LifeKeys$Several", name := "add", desc := "(LLifeKeys$Test;)V" } : Jvm.MethodName)) ∈ lw_all := lw_g (lw_at lw_m3 218 rfl) rfl
theorem q785 : (Jvm.Cond.instanceMethod ({ cls := "LifeKeys", name := "rule", desc := "()I" } : Jvm.MethodName)) ∈ lw_all := lw_g (lw_at lw_m3 223 rfl) rfl
theorem q786 : (Jvm.Cond.selects "LifeKeys" ({ cls := "LifeKeys", name := "rule", desc := "()I" } : Jvm.MethodName) ({ cls := "LifeKeys", name := "rule", desc := "()I" } : Jvm.MethodName)) ∈ lw_all := lw_g (lw_at lw_m3 224 rfl) rfl
theorem q787 : (Jvm.Cond.codeWith ({ cls := "LifeKeys", name := "rule", desc := "()I" } : Jvm.MethodName) prog_1_method_52_code (2 : Nat) (Option.some Jvm.ClassFile.FieldType.int) [((11 : Nat), (24 : Nat), (27 : Nat), (35 : Nat))]) ∈ lw_all := lw_g (lw_at lw_m3 225 rfl) rfl
theorem q789 : (Jvm.Cond.instanceMethod ({ cls := "LifeKeys", name := "death", desc := "(II)Z" } : Jvm.MethodName)) ∈ lw_all := lw_g (lw_at lw_m3 227 rfl) rfl
theorem q790 : (Jvm.Cond.selects "LifeKeys" ({ cls := "LifeKeys", name := "death", desc := "(II)Z" } : Jvm.MethodName) ({ cls := "LifeKeys", name := "death", desc := "(II)Z" } : Jvm.MethodName)) ∈ lw_all := lw_g (lw_at lw_m3 228 rfl) rfl
theorem q791 : (Jvm.Cond.code ({ cls := "LifeKeys", name := "death", desc := "(II)Z" } : Jvm.MethodName) prog_1_method_54_code (3 : Nat) (Option.some Jvm.ClassFile.FieldType.boolean)) ∈ lw_all := lw_g (lw_at lw_m3 229 rfl) rfl
theorem q792 : (Jvm.Cond.methodLink "LifeKeys" (352 : Nat) ({ cls := "LifeKeys", name := "isRule", desc := "(I)Z" } : Jvm.MethodName)) ∈ lw_all := lw_g (lw_at lw_m3 230 rfl) rfl
theorem q793 : (Jvm.Cond.privateMethod ({ cls := "LifeKeys", name := "isRule", desc := "(I)Z" } : Jvm.MethodName)) ∈ lw_tbl := lw_at lw_m3 231 rfl
theorem q794 : (Jvm.Cond.instanceMethod ({ cls := "LifeKeys", name := "isRule", desc := "(I)Z" } : Jvm.MethodName)) ∈ lw_all := lw_g (lw_at lw_m3 232 rfl) rfl
theorem q795 : (Jvm.Cond.code ({ cls := "LifeKeys", name := "isRule", desc := "(I)Z" } : Jvm.MethodName) prog_1_method_53_code (2 : Nat) (Option.some Jvm.ClassFile.FieldType.boolean)) ∈ lw_all := lw_g (lw_at lw_m3 233 rfl) rfl
theorem q797 : (Jvm.Cond.instanceMethod ({ cls := "LifeKeys", name := "dead", desc := "(III)I" } : Jvm.MethodName)) ∈ lw_all := lw_g (lw_at lw_m3 235 rfl) rfl
theorem q798 : (Jvm.Cond.selects "LifeKeys" ({ cls := "LifeKeys", name := "dead", desc := "(III)I" } : Jvm.MethodName) ({ cls := "LifeKeys", name := "dead", desc := "(III)I" } : Jvm.MethodName)) ∈ lw_all := lw_g (lw_at lw_m3 236 rfl) rfl
theorem q799 : (Jvm.Cond.code ({ cls := "LifeKeys", name := "dead", desc := "(III)I" } : Jvm.MethodName) prog_1_method_56_code (4 : Nat) (Option.some Jvm.ClassFile.FieldType.int)) ∈ lw_all := lw_g (lw_at lw_m3 237 rfl) rfl
theorem q800 : (Jvm.Cond.methodLink "LifeKeys" (367 : Nat) ({ cls := "LifeKeys", name := "isDead", desc := "(III)Z" } : Jvm.MethodName)) ∈ lw_all := lw_g (lw_at lw_m3 238 rfl) rfl
theorem q801 : (Jvm.Cond.privateMethod ({ cls := "LifeKeys", name := "isDead", desc := "(III)Z" } : Jvm.MethodName)) ∈ lw_tbl := lw_at lw_m3 239 rfl
theorem q802 : (Jvm.Cond.instanceMethod ({ cls := "LifeKeys", name := "isDead", desc := "(III)Z" } : Jvm.MethodName)) ∈ lw_all := lw_g (lw_at lw_m4 0 rfl) rfl
theorem q803 : (Jvm.Cond.code ({ cls := "LifeKeys", name := "isDead", desc := "(III)Z" } : Jvm.MethodName) prog_1_method_55_code (6 : Nat) (Option.some Jvm.ClassFile.FieldType.boolean)) ∈ lw_all := lw_g (lw_at lw_m4 1 rfl) rfl
theorem q804 : (Jvm.Cond.classLink "LifeKeys" (358 : Nat) "LifeKeys$Question") ∈ lw_all := lw_g (lw_at lw_m4 2 rfl) rfl
theorem q806 : (Jvm.Cond.methodLink "LifeKeys" (360 : Nat) ({ cls := "LifeKeys$Question", name := "<init>", desc := "(LLifeKeys;LLifeKeys$Saying;IIIZ)V" } : Jvm.MethodName)) ∈ lw_all := lw_g (lw_at lw_m4 4 rfl) rfl
theorem q829 : (Jvm.Cond.methodLink "LifeKeys" (363 : Nat) ({ cls := "LifeKeys$Test", name := "holds", desc := "(LLifeKeys$Question;)Z" } : Jvm.MethodName)) ∈ lw_all := lw_g (lw_at lw_m4 27 rfl) rfl
theorem q857 : (Jvm.Cond.instanceMethod ({ cls := "LifeKeys", name := "mourn", desc := "(IIZ)Z" } : Jvm.MethodName)) ∈ lw_all := lw_g (lw_at lw_m4 55 rfl) rfl
theorem q858 : (Jvm.Cond.selects "LifeKeys" ({ cls := "LifeKeys", name := "mourn", desc := "(IIZ)Z" } : Jvm.MethodName) ({ cls := "LifeKeys", name := "mourn", desc := "(IIZ)Z" } : Jvm.MethodName)) ∈ lw_all := lw_g (lw_at lw_m4 56 rfl) rfl
theorem q859 : (Jvm.Cond.code ({ cls := "LifeKeys", name := "mourn", desc := "(IIZ)Z" } : Jvm.MethodName) prog_1_method_57_code (4 : Nat) (Option.some Jvm.ClassFile.FieldType.boolean)) ∈ lw_all := lw_g (lw_at lw_m4 57 rfl) rfl
theorem q861 : (Jvm.Cond.methodLink "LifeKeys" (373 : Nat) ({ cls := "LifeKeys$Saying", name := "<init>", desc := "(IIZLLifeKeys$Saying;)V" } : Jvm.MethodName)) ∈ lw_all := lw_g (lw_at lw_m4 59 rfl) rfl
theorem q883 : (Jvm.Cond.instanceMethod ({ cls := "LifeKeys", name := "seal", desc := "(IIZ)I" } : Jvm.MethodName)) ∈ lw_all := lw_g (lw_at lw_m4 81 rfl) rfl
theorem q884 : (Jvm.Cond.selects "LifeKeys" ({ cls := "LifeKeys", name := "seal", desc := "(IIZ)I" } : Jvm.MethodName) ({ cls := "LifeKeys", name := "seal", desc := "(IIZ)I" } : Jvm.MethodName)) ∈ lw_all := lw_g (lw_at lw_m4 82 rfl) rfl
theorem q885 : (Jvm.Cond.code ({ cls := "LifeKeys", name := "seal", desc := "(IIZ)I" } : Jvm.MethodName) prog_1_method_59_code (4 : Nat) (Option.some Jvm.ClassFile.FieldType.int)) ∈ lw_all := lw_g (lw_at lw_m4 83 rfl) rfl
theorem q887 : (Jvm.Cond.methodLink "LifeKeys" (379 : Nat) ({ cls := "LifeKeys$Thing", name := "<init>", desc := "(IIII)V" } : Jvm.MethodName)) ∈ lw_all := lw_g (lw_at lw_m4 85 rfl) rfl
theorem q892 : (Jvm.Cond.fieldLinkNest "LifeKeys" (405 : Nat) "LifeKeys$Thing" "digest" "I" "LifeKeys") ∈ lw_tbl := lw_at lw_m4 90 rfl
theorem q895 : (Jvm.Cond.fieldLinkNest "LifeKeys" (392 : Nat) "LifeKeys$Thing" "rule" "I" "LifeKeys") ∈ lw_tbl := lw_at lw_m4 93 rfl
theorem q897 : (Jvm.Cond.fieldLinkNest "LifeKeys" (385 : Nat) "LifeKeys$Thing" "last" "LLifeKeys$Saying;" "LifeKeys") ∈ lw_tbl := lw_at lw_m4 95 rfl
theorem q899 : (Jvm.Cond.fieldLinkNest "LifeKeys" (389 : Nat) "LifeKeys$Thing" "asked" "I" "LifeKeys") ∈ lw_tbl := lw_at lw_m4 97 rfl
theorem q901 : (Jvm.Cond.fieldLinkNest "LifeKeys" (402 : Nat) "LifeKeys$Thing" "opened" "I" "LifeKeys") ∈ lw_tbl := lw_at lw_m4 99 rfl
theorem q918 : (Jvm.Cond.instanceMethod ({ cls := "LifeKeys", name := "say", desc := "(IIZ)Z" } : Jvm.MethodName)) ∈ lw_all := lw_g (lw_at lw_m4 116 rfl) rfl
theorem q919 : (Jvm.Cond.selects "LifeKeys" ({ cls := "LifeKeys", name := "say", desc := "(IIZ)Z" } : Jvm.MethodName) ({ cls := "LifeKeys", name := "say", desc := "(IIZ)Z" } : Jvm.MethodName)) ∈ lw_all := lw_g (lw_at lw_m4 117 rfl) rfl
theorem q920 : (Jvm.Cond.code ({ cls := "LifeKeys", name := "say", desc := "(IIZ)Z" } : Jvm.MethodName) prog_1_method_60_code (4 : Nat) (Option.some Jvm.ClassFile.FieldType.boolean)) ∈ lw_all := lw_g (lw_at lw_m4 118 rfl) rfl
theorem q921 : (Jvm.Cond.methodLink "LifeKeys" (382 : Nat) ({ cls := "LifeKeys", name := "isThing", desc := "(I)Z" } : Jvm.MethodName)) ∈ lw_all := lw_g (lw_at lw_m4 119 rfl) rfl
theorem q922 : (Jvm.Cond.privateMethod ({ cls := "LifeKeys", name := "isThing", desc := "(I)Z" } : Jvm.MethodName)) ∈ lw_tbl := lw_at lw_m4 120 rfl
theorem q923 : (Jvm.Cond.instanceMethod ({ cls := "LifeKeys", name := "isThing", desc := "(I)Z" } : Jvm.MethodName)) ∈ lw_all := lw_g (lw_at lw_m4 121 rfl) rfl
theorem q924 : (Jvm.Cond.code ({ cls := "LifeKeys", name := "isThing", desc := "(I)Z" } : Jvm.MethodName) prog_1_method_58_code (2 : Nat) (Option.some Jvm.ClassFile.FieldType.boolean)) ∈ lw_all := lw_g (lw_at lw_m4 122 rfl) rfl
theorem q926 : (Jvm.Cond.instanceMethod ({ cls := "LifeKeys", name := "ask", desc := "(I)Z" } : Jvm.MethodName)) ∈ lw_all := lw_g (lw_at lw_m4 124 rfl) rfl
theorem q927 : (Jvm.Cond.selects "LifeKeys" ({ cls := "LifeKeys", name := "ask", desc := "(I)Z" } : Jvm.MethodName) ({ cls := "LifeKeys", name := "ask", desc := "(I)Z" } : Jvm.MethodName)) ∈ lw_all := lw_g (lw_at lw_m4 125 rfl) rfl
theorem q928 : (Jvm.Cond.code ({ cls := "LifeKeys", name := "ask", desc := "(I)Z" } : Jvm.MethodName) prog_1_method_61_code (2 : Nat) (Option.some Jvm.ClassFile.FieldType.boolean)) ∈ lw_all := lw_g (lw_at lw_m4 126 rfl) rfl
theorem q930 : (Jvm.Cond.instanceMethod ({ cls := "LifeKeys", name := "may", desc := "(III)I" } : Jvm.MethodName)) ∈ lw_all := lw_g (lw_at lw_m4 128 rfl) rfl
theorem q931 : (Jvm.Cond.selects "LifeKeys" ({ cls := "LifeKeys", name := "may", desc := "(III)I" } : Jvm.MethodName) ({ cls := "LifeKeys", name := "may", desc := "(III)I" } : Jvm.MethodName)) ∈ lw_all := lw_g (lw_at lw_m4 129 rfl) rfl
theorem q932 : (Jvm.Cond.code ({ cls := "LifeKeys", name := "may", desc := "(III)I" } : Jvm.MethodName) prog_1_method_64_code (4 : Nat) (Option.some Jvm.ClassFile.FieldType.int)) ∈ lw_all := lw_g (lw_at lw_m4 130 rfl) rfl
theorem q933 : (Jvm.Cond.methodLink "LifeKeys" (395 : Nat) ({ cls := "LifeKeys", name := "isRuled", desc := "(I)Z" } : Jvm.MethodName)) ∈ lw_all := lw_g (lw_at lw_m4 131 rfl) rfl
theorem q934 : (Jvm.Cond.privateMethod ({ cls := "LifeKeys", name := "isRuled", desc := "(I)Z" } : Jvm.MethodName)) ∈ lw_tbl := lw_at lw_m4 132 rfl
theorem q935 : (Jvm.Cond.instanceMethod ({ cls := "LifeKeys", name := "isRuled", desc := "(I)Z" } : Jvm.MethodName)) ∈ lw_all := lw_g (lw_at lw_m4 133 rfl) rfl
theorem q936 : (Jvm.Cond.code ({ cls := "LifeKeys", name := "isRuled", desc := "(I)Z" } : Jvm.MethodName) prog_1_method_62_code (2 : Nat) (Option.some Jvm.ClassFile.FieldType.boolean)) ∈ lw_all := lw_g (lw_at lw_m4 134 rfl) rfl
theorem q937 : (Jvm.Cond.methodLink "LifeKeys" (398 : Nat) ({ cls := "LifeKeys", name := "may1", desc := "(LLifeKeys$Thing;II)Z" } : Jvm.MethodName)) ∈ lw_all := lw_g (lw_at lw_m4 135 rfl) rfl
theorem q938 : (Jvm.Cond.privateMethod ({ cls := "LifeKeys", name := "may1", desc := "(LLifeKeys$Thing;II)Z" } : Jvm.MethodName)) ∈ lw_tbl := lw_at lw_m4 136 rfl
theorem q939 : (Jvm.Cond.instanceMethod ({ cls := "LifeKeys", name := "may1", desc := "(LLifeKeys$Thing;II)Z" } : Jvm.MethodName)) ∈ lw_all := lw_g (lw_at lw_m4 137 rfl) rfl
theorem q940 : (Jvm.Cond.code ({ cls := "LifeKeys", name := "may1", desc := "(LLifeKeys$Thing;II)Z" } : Jvm.MethodName) prog_1_method_63_code (4 : Nat) (Option.some Jvm.ClassFile.FieldType.boolean)) ∈ lw_all := lw_g (lw_at lw_m4 138 rfl) rfl
theorem q942 : (Jvm.Cond.instanceMethod ({ cls := "LifeKeys", name := "unseal", desc := "(I)I" } : Jvm.MethodName)) ∈ lw_all := lw_g (lw_at lw_m4 140 rfl) rfl
theorem q943 : (Jvm.Cond.selects "LifeKeys" ({ cls := "LifeKeys", name := "unseal", desc := "(I)I" } : Jvm.MethodName) ({ cls := "LifeKeys", name := "unseal", desc := "(I)I" } : Jvm.MethodName)) ∈ lw_all := lw_g (lw_at lw_m4 141 rfl) rfl
theorem q944 : (Jvm.Cond.code ({ cls := "LifeKeys", name := "unseal", desc := "(I)I" } : Jvm.MethodName) prog_1_method_65_code (2 : Nat) (Option.some Jvm.ClassFile.FieldType.int)) ∈ lw_all := lw_g (lw_at lw_m4 142 rfl) rfl
theorem q946 : (Jvm.Cond.instanceMethod ({ cls := "LifeKeys", name := "sign", desc := "(IIII)I" } : Jvm.MethodName)) ∈ lw_all := lw_g (lw_at lw_m4 144 rfl) rfl
theorem q947 : (Jvm.Cond.selects "LifeKeys" ({ cls := "LifeKeys", name := "sign", desc := "(IIII)I" } : Jvm.MethodName) ({ cls := "LifeKeys", name := "sign", desc := "(IIII)I" } : Jvm.MethodName)) ∈ lw_all := lw_g (lw_at lw_m4 145 rfl) rfl
theorem q948 : (Jvm.Cond.code ({ cls := "LifeKeys", name := "sign", desc := "(IIII)I" } : Jvm.MethodName) prog_1_method_70_code (5 : Nat) (Option.some Jvm.ClassFile.FieldType.int)) ∈ lw_all := lw_g (lw_at lw_m4 146 rfl) rfl
theorem q949 : (Jvm.Cond.methodLink "LifeKeys" (424 : Nat) ({ cls := "LifeKeys", name := "mayServe", desc := "(LLifeKeys$Key;)Z" } : Jvm.MethodName)) ∈ lw_all := lw_g (lw_at lw_m4 147 rfl) rfl
theorem q950 : (Jvm.Cond.privateMethod ({ cls := "LifeKeys", name := "mayServe", desc := "(LLifeKeys$Key;)Z" } : Jvm.MethodName)) ∈ lw_tbl := lw_at lw_m4 148 rfl
theorem q951 : (Jvm.Cond.instanceMethod ({ cls := "LifeKeys", name := "mayServe", desc := "(LLifeKeys$Key;)Z" } : Jvm.MethodName)) ∈ lw_all := lw_g (lw_at lw_m4 149 rfl) rfl
theorem q952 : (Jvm.Cond.code ({ cls := "LifeKeys", name := "mayServe", desc := "(LLifeKeys$Key;)Z" } : Jvm.MethodName) prog_1_method_67_code (2 : Nat) (Option.some Jvm.ClassFile.FieldType.boolean)) ∈ lw_all := lw_g (lw_at lw_m4 150 rfl) rfl
theorem q953 : (Jvm.Cond.methodLink "LifeKeys" (408 : Nat) ({ cls := "LifeKeys$Key", name := "isBurnt", desc := "(II)Z" } : Jvm.MethodName)) ∈ lw_all := lw_g (lw_at lw_m4 151 rfl) rfl
theorem q961 : (Jvm.Cond.methodLink "LifeKeys" (428 : Nat) ({ cls := "LifeKeys", name := "gets", desc := "(II)Z" } : Jvm.MethodName)) ∈ lw_all := lw_g (lw_at lw_m4 159 rfl) rfl
theorem q962 : (Jvm.Cond.privateMethod ({ cls := "LifeKeys", name := "gets", desc := "(II)Z" } : Jvm.MethodName)) ∈ lw_tbl := lw_at lw_m4 160 rfl
theorem q963 : (Jvm.Cond.instanceMethod ({ cls := "LifeKeys", name := "gets", desc := "(II)Z" } : Jvm.MethodName)) ∈ lw_all := lw_g (lw_at lw_m4 161 rfl) rfl
theorem q964 : (Jvm.Cond.code ({ cls := "LifeKeys", name := "gets", desc := "(II)Z" } : Jvm.MethodName) prog_1_method_40_code (3 : Nat) (Option.some Jvm.ClassFile.FieldType.boolean)) ∈ lw_all := lw_g (lw_at lw_m4 162 rfl) rfl
theorem q965 : (Jvm.Cond.methodLink "LifeKeys" (431 : Nat) ({ cls := "LifeKeys", name := "write", desc := "(LLifeKeys$Key;II)I" } : Jvm.MethodName)) ∈ lw_all := lw_g (lw_at lw_m4 163 rfl) rfl
theorem q966 : (Jvm.Cond.privateMethod ({ cls := "LifeKeys", name := "write", desc := "(LLifeKeys$Key;II)I" } : Jvm.MethodName)) ∈ lw_tbl := lw_at lw_m4 164 rfl
theorem q967 : (Jvm.Cond.instanceMethod ({ cls := "LifeKeys", name := "write", desc := "(LLifeKeys$Key;II)I" } : Jvm.MethodName)) ∈ lw_all := lw_g (lw_at lw_m4 165 rfl) rfl
theorem q968 : (Jvm.Cond.code ({ cls := "LifeKeys", name := "write", desc := "(LLifeKeys$Key;II)I" } : Jvm.MethodName) prog_1_method_69_code (5 : Nat) (Option.some Jvm.ClassFile.FieldType.int)) ∈ lw_all := lw_g (lw_at lw_m4 166 rfl) rfl
theorem q969 : (Jvm.Cond.methodLink "LifeKeys" (417 : Nat) ({ cls := "LifeKeys", name := "challenge", desc := "(II)I" } : Jvm.MethodName)) ∈ lw_all := lw_g (lw_at lw_m4 167 rfl) rfl
theorem q970 : (Jvm.Cond.privateMethod ({ cls := "LifeKeys", name := "challenge", desc := "(II)I" } : Jvm.MethodName)) ∈ lw_tbl := lw_at lw_m4 168 rfl
theorem q971 : (Jvm.Cond.instanceMethod ({ cls := "LifeKeys", name := "challenge", desc := "(II)I" } : Jvm.MethodName)) ∈ lw_all := lw_g (lw_at lw_m4 169 rfl) rfl
theorem q972 : (Jvm.Cond.code ({ cls := "LifeKeys", name := "challenge", desc := "(II)I" } : Jvm.MethodName) prog_1_method_66_code (3 : Nat) (Option.some Jvm.ClassFile.FieldType.int)) ∈ lw_all := lw_g (lw_at lw_m4 170 rfl) rfl
theorem q973 : (Jvm.Cond.methodLink "LifeKeys" (420 : Nat) ({ cls := "LifeKeys", name := "keep", desc := "(IILLifeKeys$Key;I)I" } : Jvm.MethodName)) ∈ lw_all := lw_g (lw_at lw_m4 171 rfl) rfl
theorem q974 : (Jvm.Cond.privateMethod ({ cls := "LifeKeys", name := "keep", desc := "(IILLifeKeys$Key;I)I" } : Jvm.MethodName)) ∈ lw_tbl := lw_at lw_m4 172 rfl
theorem q975 : (Jvm.Cond.instanceMethod ({ cls := "LifeKeys", name := "keep", desc := "(IILLifeKeys$Key;I)I" } : Jvm.MethodName)) ∈ lw_all := lw_g (lw_at lw_m4 173 rfl) rfl
theorem q976 : (Jvm.Cond.code ({ cls := "LifeKeys", name := "keep", desc := "(IILLifeKeys$Key;I)I" } : Jvm.MethodName) prog_1_method_68_code (5 : Nat) (Option.some Jvm.ClassFile.FieldType.int)) ∈ lw_all := lw_g (lw_at lw_m4 174 rfl) rfl
theorem q978 : (Jvm.Cond.methodLink "LifeKeys" (414 : Nat) ({ cls := "LifeKeys$Signature", name := "<init>", desc := "(IILLifeKeys$Key;II)V" } : Jvm.MethodName)) ∈ lw_all := lw_g (lw_at lw_m4 176 rfl) rfl
theorem q983 : (Jvm.Cond.fieldLinkNest "LifeKeys" (441 : Nat) "LifeKeys$Signature" "\x72" "I" "LifeKeys") ∈ lw_tbl := lw_at lw_m4 181 rfl
theorem q985 : (Jvm.Cond.fieldLinkNest "LifeKeys" (444 : Nat) "LifeKeys$Signature" "s" "I" "LifeKeys") ∈ lw_tbl := lw_at lw_m4 183 rfl
theorem q987 : (Jvm.Cond.fieldLinkNest "LifeKeys" (448 : Nat) "LifeKeys$Signature" "thing" "I" "LifeKeys") ∈ lw_tbl := lw_at lw_m4 185 rfl
theorem q989 : (Jvm.Cond.fieldLinkNest "LifeKeys" (451 : Nat) "LifeKeys$Signature" "day" "I" "LifeKeys") ∈ lw_tbl := lw_at lw_m4 187 rfl
theorem q991 : (Jvm.Cond.fieldLinkNest "LifeKeys" (447 : Nat) "LifeKeys$Signature" "key" "LLifeKeys$Key;" "LifeKeys") ∈ lw_tbl := lw_at lw_m4 189 rfl
theorem q1004 : (Jvm.Cond.instanceMethod ({ cls := "LifeKeys", name := "falsely", desc := "(IZ)Z" } : Jvm.MethodName)) ∈ lw_all := lw_g (lw_at lw_m4 202 rfl) rfl
theorem q1005 : (Jvm.Cond.selects "LifeKeys" ({ cls := "LifeKeys", name := "falsely", desc := "(IZ)Z" } : Jvm.MethodName) ({ cls := "LifeKeys", name := "falsely", desc := "(IZ)Z" } : Jvm.MethodName)) ∈ lw_all := lw_g (lw_at lw_m4 203 rfl) rfl
theorem q1006 : (Jvm.Cond.code ({ cls := "LifeKeys", name := "falsely", desc := "(IZ)Z" } : Jvm.MethodName) prog_1_method_71_code (3 : Nat) (Option.some Jvm.ClassFile.FieldType.boolean)) ∈ lw_all := lw_g (lw_at lw_m4 204 rfl) rfl
theorem q1008 : (Jvm.Cond.instanceMethod ({ cls := "LifeKeys", name := "several", desc := "(IIIJ)I" } : Jvm.MethodName)) ∈ lw_all := lw_g (lw_at lw_m4 206 rfl) rfl
theorem q1009 : (Jvm.Cond.selects "LifeKeys" ({ cls := "LifeKeys", name := "several", desc := "(IIIJ)I" } : Jvm.MethodName) ({ cls := "LifeKeys", name := "several", desc := "(IIIJ)I" } : Jvm.MethodName)) ∈ lw_all := lw_g (lw_at lw_m4 207 rfl) rfl
theorem q1010 : (Jvm.Cond.code ({ cls := "LifeKeys", name := "several", desc := "(IIIJ)I" } : Jvm.MethodName) prog_1_method_72_code (15 : Nat) (Option.some Jvm.ClassFile.FieldType.int)) ∈ lw_all := lw_g (lw_at lw_m4 208 rfl) rfl
theorem q1011 : (Jvm.Cond.methodLink "LifeKeys" (435 : Nat) ({ cls := "LifeKeys", name := "next", desc := "(J)J" } : Jvm.MethodName)) ∈ lw_all := lw_g (lw_at lw_m4 209 rfl) rfl
theorem q1012 : (Jvm.Cond.constantLong "LifeKeys" (439 : Nat) (1018 : Int64)) ∈ lw_all := lw_g (lw_at lw_m4 210 rfl) rfl
theorem q1014 : (Jvm.Cond.instanceMethod ({ cls := "LifeKeys", name := "signed", desc := "(II)I" } : Jvm.MethodName)) ∈ lw_all := lw_g (lw_at lw_m4 212 rfl) rfl
theorem q1015 : (Jvm.Cond.selects "LifeKeys" ({ cls := "LifeKeys", name := "signed", desc := "(II)I" } : Jvm.MethodName) ({ cls := "LifeKeys", name := "signed", desc := "(II)I" } : Jvm.MethodName)) ∈ lw_all := lw_g (lw_at lw_m4 213 rfl) rfl
theorem q1016 : (Jvm.Cond.code ({ cls := "LifeKeys", name := "signed", desc := "(II)I" } : Jvm.MethodName) prog_1_method_73_code (4 : Nat) (Option.some Jvm.ClassFile.FieldType.int)) ∈ lw_all := lw_g (lw_at lw_m4 214 rfl) rfl
theorem q1018 : (Jvm.Cond.instanceMethod ({ cls := "LifeKeys", name := "taken", desc := "(IIII)I" } : Jvm.MethodName)) ∈ lw_all := lw_g (lw_at lw_m4 216 rfl) rfl
theorem q1019 : (Jvm.Cond.selects "LifeKeys" ({ cls := "LifeKeys", name := "taken", desc := "(IIII)I" } : Jvm.MethodName) ({ cls := "LifeKeys", name := "taken", desc := "(IIII)I" } : Jvm.MethodName)) ∈ lw_all := lw_g (lw_at lw_m4 217 rfl) rfl
theorem q1020 : (Jvm.Cond.code ({ cls := "LifeKeys", name := "taken", desc := "(IIII)I" } : Jvm.MethodName) prog_1_method_74_code (5 : Nat) (Option.some Jvm.ClassFile.FieldType.int)) ∈ lw_all := lw_g (lw_at lw_m4 218 rfl) rfl
theorem q1022 : (Jvm.Cond.instanceMethod ({ cls := "LifeKeys", name := "burn", desc := "(II)Z" } : Jvm.MethodName)) ∈ lw_all := lw_g (lw_at lw_m4 220 rfl) rfl
theorem q1023 : (Jvm.Cond.selects "LifeKeys" ({ cls := "LifeKeys", name := "burn", desc := "(II)Z" } : Jvm.MethodName) ({ cls := "LifeKeys", name := "burn", desc := "(II)Z" } : Jvm.MethodName)) ∈ lw_all := lw_g (lw_at lw_m4 221 rfl) rfl
theorem q1024 : (Jvm.Cond.code ({ cls := "LifeKeys", name := "burn", desc := "(II)Z" } : Jvm.MethodName) prog_1_method_75_code (3 : Nat) (Option.some Jvm.ClassFile.FieldType.boolean)) ∈ lw_all := lw_g (lw_at lw_m4 222 rfl) rfl
theorem q1025 : (Jvm.Cond.classLink "LifeKeys" (457 : Nat) "LifeKeys$Burn") ∈ lw_all := lw_g (lw_at lw_m4 223 rfl) rfl
theorem q1027 : (Jvm.Cond.methodLink "LifeKeys" (462 : Nat) ({ cls := "LifeKeys$Burn", name := "<init>", desc := "(IILLifeKeys$Burn;)V" } : Jvm.MethodName)) ∈ lw_all := lw_g (lw_at lw_m4 225 rfl) rfl
theorem q1045 : (Jvm.Cond.instanceMethod ({ cls := "LifeKeys", name := "old", desc := "(I)Z" } : Jvm.MethodName)) ∈ lw_all := lw_g (lw_at lw_m5 3 rfl) rfl
theorem q1046 : (Jvm.Cond.selects "LifeKeys" ({ cls := "LifeKeys", name := "old", desc := "(I)Z" } : Jvm.MethodName) ({ cls := "LifeKeys", name := "old", desc := "(I)Z" } : Jvm.MethodName)) ∈ lw_all := lw_g (lw_at lw_m5 4 rfl) rfl
theorem q1047 : (Jvm.Cond.code ({ cls := "LifeKeys", name := "old", desc := "(I)Z" } : Jvm.MethodName) prog_1_method_76_code (2 : Nat) (Option.some Jvm.ClassFile.FieldType.boolean)) ∈ lw_all := lw_g (lw_at lw_m5 5 rfl) rfl
theorem q1049 : (Jvm.Cond.instanceMethod ({ cls := "LifeKeys", name := "stands", desc := "(II)I" } : Jvm.MethodName)) ∈ lw_all := lw_g (lw_at lw_m5 7 rfl) rfl
theorem q1050 : (Jvm.Cond.selects "LifeKeys" ({ cls := "LifeKeys", name := "stands", desc := "(II)I" } : Jvm.MethodName) ({ cls := "LifeKeys", name := "stands", desc := "(II)I" } : Jvm.MethodName)) ∈ lw_all := lw_g (lw_at lw_m5 8 rfl) rfl
theorem q1051 : (Jvm.Cond.code ({ cls := "LifeKeys", name := "stands", desc := "(II)I" } : Jvm.MethodName) prog_1_method_77_code (3 : Nat) (Option.some Jvm.ClassFile.FieldType.int)) ∈ lw_all := lw_g (lw_at lw_m5 9 rfl) rfl
theorem q1052 : (Jvm.Cond.methodLink "LifeKeys" (465 : Nat) ({ cls := "LifeKeys$Signature", name := "stands", desc := "(I)I" } : Jvm.MethodName)) ∈ lw_all := lw_g (lw_at lw_m5 10 rfl) rfl
theorem q1061 : (Jvm.Cond.instanceMethod ({ cls := "LifeKeys", name := "lend", desc := "(IIIII)I" } : Jvm.MethodName)) ∈ lw_all := lw_g (lw_at lw_m5 19 rfl) rfl
theorem q1062 : (Jvm.Cond.selects "LifeKeys" ({ cls := "LifeKeys", name := "lend", desc := "(IIIII)I" } : Jvm.MethodName) ({ cls := "LifeKeys", name := "lend", desc := "(IIIII)I" } : Jvm.MethodName)) ∈ lw_all := lw_g (lw_at lw_m5 20 rfl) rfl
theorem q1063 : (Jvm.Cond.code ({ cls := "LifeKeys", name := "lend", desc := "(IIIII)I" } : Jvm.MethodName) prog_1_method_78_code (6 : Nat) (Option.some Jvm.ClassFile.FieldType.int)) ∈ lw_all := lw_g (lw_at lw_m5 21 rfl) rfl
theorem q1065 : (Jvm.Cond.methodLink "LifeKeys" (471 : Nat) ({ cls := "LifeKeys$Lent", name := "<init>", desc := "(LLifeKeys$Key;III)V" } : Jvm.MethodName)) ∈ lw_all := lw_g (lw_at lw_m5 23 rfl) rfl
theorem q1070 : (Jvm.Cond.fieldLinkNest "LifeKeys" (477 : Nat) "LifeKeys$Lent" "key" "LLifeKeys$Key;" "LifeKeys") ∈ lw_tbl := lw_at lw_m5 28 rfl
theorem q1074 : (Jvm.Cond.fieldLinkNest "LifeKeys" (478 : Nat) "LifeKeys$Lent" "uses" "I" "LifeKeys") ∈ lw_tbl := lw_at lw_m5 32 rfl
theorem q1076 : (Jvm.Cond.fieldLinkNest "LifeKeys" (481 : Nat) "LifeKeys$Lent" "isBack" "Z" "LifeKeys") ∈ lw_tbl := lw_at lw_m5 34 rfl
theorem q1089 : (Jvm.Cond.instanceMethod ({ cls := "LifeKeys", name := "use", desc := "(III)I" } : Jvm.MethodName)) ∈ lw_all := lw_g (lw_at lw_m5 47 rfl) rfl
theorem q1090 : (Jvm.Cond.selects "LifeKeys" ({ cls := "LifeKeys", name := "use", desc := "(III)I" } : Jvm.MethodName) ({ cls := "LifeKeys", name := "use", desc := "(III)I" } : Jvm.MethodName)) ∈ lw_all := lw_g (lw_at lw_m5 48 rfl) rfl
theorem q1091 : (Jvm.Cond.code ({ cls := "LifeKeys", name := "use", desc := "(III)I" } : Jvm.MethodName) prog_1_method_79_code (4 : Nat) (Option.some Jvm.ClassFile.FieldType.int)) ∈ lw_all := lw_g (lw_at lw_m5 49 rfl) rfl
theorem q1092 : (Jvm.Cond.methodLink "LifeKeys" (474 : Nat) ({ cls := "LifeKeys$Lent", name := "mayUse", desc := "(II)Z" } : Jvm.MethodName)) ∈ lw_all := lw_g (lw_at lw_m5 50 rfl) rfl
theorem q1097 : (Jvm.Cond.instanceMethod ({ cls := "LifeKeys", name := "back", desc := "(I)Z" } : Jvm.MethodName)) ∈ lw_all := lw_g (lw_at lw_m5 55 rfl) rfl
theorem q1098 : (Jvm.Cond.selects "LifeKeys" ({ cls := "LifeKeys", name := "back", desc := "(I)Z" } : Jvm.MethodName) ({ cls := "LifeKeys", name := "back", desc := "(I)Z" } : Jvm.MethodName)) ∈ lw_all := lw_g (lw_at lw_m5 56 rfl) rfl
theorem q1099 : (Jvm.Cond.code ({ cls := "LifeKeys", name := "back", desc := "(I)Z" } : Jvm.MethodName) prog_1_method_80_code (2 : Nat) (Option.some Jvm.ClassFile.FieldType.boolean)) ∈ lw_all := lw_g (lw_at lw_m5 57 rfl) rfl
theorem q1101 : (Jvm.Cond.instanceMethod ({ cls := "LifeKeys", name := "fall", desc := "(I)I" } : Jvm.MethodName)) ∈ lw_all := lw_g (lw_at lw_m5 59 rfl) rfl
theorem q1102 : (Jvm.Cond.selects "LifeKeys" ({ cls := "LifeKeys", name := "fall", desc := "(I)I" } : Jvm.MethodName) ({ cls := "LifeKeys", name := "fall", desc := "(I)I" } : Jvm.MethodName)) ∈ lw_all := lw_g (lw_at lw_m5 60 rfl) rfl
theorem q1103 : (Jvm.Cond.code ({ cls := "LifeKeys", name := "fall", desc := "(I)I" } : Jvm.MethodName) prog_1_method_81_code (2 : Nat) (Option.some Jvm.ClassFile.FieldType.int)) ∈ lw_all := lw_g (lw_at lw_m5 61 rfl) rfl
theorem q1105 : (Jvm.Cond.instanceMethod ({ cls := "LifeKeys", name := "fallen", desc := "(II)J" } : Jvm.MethodName)) ∈ lw_all := lw_g (lw_at lw_m5 63 rfl) rfl
theorem q1106 : (Jvm.Cond.selects "LifeKeys" ({ cls := "LifeKeys", name := "fallen", desc := "(II)J" } : Jvm.MethodName) ({ cls := "LifeKeys", name := "fallen", desc := "(II)J" } : Jvm.MethodName)) ∈ lw_all := lw_g (lw_at lw_m5 64 rfl) rfl
theorem q1107 : (Jvm.Cond.code ({ cls := "LifeKeys", name := "fallen", desc := "(II)J" } : Jvm.MethodName) prog_1_method_84_code (3 : Nat) (Option.some Jvm.ClassFile.FieldType.long)) ∈ lw_all := lw_g (lw_at lw_m5 65 rfl) rfl
theorem q1108 : (Jvm.Cond.methodLink "LifeKeys" (491 : Nat) ({ cls := "LifeKeys", name := "lostBy", desc := "(I)J" } : Jvm.MethodName)) ∈ lw_all := lw_g (lw_at lw_m5 66 rfl) rfl
theorem q1109 : (Jvm.Cond.privateMethod ({ cls := "LifeKeys", name := "lostBy", desc := "(I)J" } : Jvm.MethodName)) ∈ lw_tbl := lw_at lw_m5 67 rfl
theorem q1110 : (Jvm.Cond.instanceMethod ({ cls := "LifeKeys", name := "lostBy", desc := "(I)J" } : Jvm.MethodName)) ∈ lw_all := lw_g (lw_at lw_m5 68 rfl) rfl
theorem q1111 : (Jvm.Cond.code ({ cls := "LifeKeys", name := "lostBy", desc := "(I)J" } : Jvm.MethodName) prog_1_method_83_code (2 : Nat) (Option.some Jvm.ClassFile.FieldType.long)) ∈ lw_all := lw_g (lw_at lw_m5 69 rfl) rfl
theorem q1112 : (Jvm.Cond.methodLink "LifeKeys" (488 : Nat) ({ cls := "LifeKeys", name := "others", desc := "(I)I" } : Jvm.MethodName)) ∈ lw_all := lw_g (lw_at lw_m5 70 rfl) rfl
theorem q1113 : (Jvm.Cond.privateMethod ({ cls := "LifeKeys", name := "others", desc := "(I)I" } : Jvm.MethodName)) ∈ lw_tbl := lw_at lw_m5 71 rfl
theorem q1114 : (Jvm.Cond.instanceMethod ({ cls := "LifeKeys", name := "others", desc := "(I)I" } : Jvm.MethodName)) ∈ lw_all := lw_g (lw_at lw_m5 72 rfl) rfl
theorem q1115 : (Jvm.Cond.code ({ cls := "LifeKeys", name := "others", desc := "(I)I" } : Jvm.MethodName) prog_1_method_82_code (2 : Nat) (Option.some Jvm.ClassFile.FieldType.int)) ∈ lw_all := lw_g (lw_at lw_m5 73 rfl) rfl
theorem q1117 : (Jvm.Cond.instanceMethod ({ cls := "LifeKeys", name := "least", desc := "(II)I" } : Jvm.MethodName)) ∈ lw_all := lw_g (lw_at lw_m5 75 rfl) rfl
theorem q1118 : (Jvm.Cond.selects "LifeKeys" ({ cls := "LifeKeys", name := "least", desc := "(II)I" } : Jvm.MethodName) ({ cls := "LifeKeys", name := "least", desc := "(II)I" } : Jvm.MethodName)) ∈ lw_all := lw_g (lw_at lw_m5 76 rfl) rfl
theorem q1119 : (Jvm.Cond.code ({ cls := "LifeKeys", name := "least", desc := "(II)I" } : Jvm.MethodName) prog_1_method_86_code (3 : Nat) (Option.some Jvm.ClassFile.FieldType.int)) ∈ lw_all := lw_g (lw_at lw_m5 77 rfl) rfl
theorem q1120 : (Jvm.Cond.methodLink "LifeKeys" (501 : Nat) ({ cls := "LifeKeys", name := "findLeast", desc := "(II)Z" } : Jvm.MethodName)) ∈ lw_all := lw_g (lw_at lw_m5 78 rfl) rfl
theorem q1121 : (Jvm.Cond.privateMethod ({ cls := "LifeKeys", name := "findLeast", desc := "(II)Z" } : Jvm.MethodName)) ∈ lw_tbl := lw_at lw_m5 79 rfl
theorem q1122 : (Jvm.Cond.instanceMethod ({ cls := "LifeKeys", name := "findLeast", desc := "(II)Z" } : Jvm.MethodName)) ∈ lw_all := lw_g (lw_at lw_m5 80 rfl) rfl
theorem q1123 : (Jvm.Cond.code ({ cls := "LifeKeys", name := "findLeast", desc := "(II)Z" } : Jvm.MethodName) prog_1_method_85_code (6 : Nat) (Option.some Jvm.ClassFile.FieldType.boolean)) ∈ lw_all := lw_g (lw_at lw_m5 81 rfl) rfl
theorem q1125 : (Jvm.Cond.instanceMethod ({ cls := "LifeKeys", name := "ways", desc := "(II)I" } : Jvm.MethodName)) ∈ lw_all := lw_g (lw_at lw_m5 83 rfl) rfl
theorem q1126 : (Jvm.Cond.selects "LifeKeys" ({ cls := "LifeKeys", name := "ways", desc := "(II)I" } : Jvm.MethodName) ({ cls := "LifeKeys", name := "ways", desc := "(II)I" } : Jvm.MethodName)) ∈ lw_all := lw_g (lw_at lw_m5 84 rfl) rfl
theorem q1127 : (Jvm.Cond.code ({ cls := "LifeKeys", name := "ways", desc := "(II)I" } : Jvm.MethodName) prog_1_method_87_code (3 : Nat) (Option.some Jvm.ClassFile.FieldType.int)) ∈ lw_all := lw_g (lw_at lw_m5 85 rfl) rfl
theorem q1129 : (Jvm.Cond.instanceMethod ({ cls := "LifeKeys", name := "first", desc := "(II)I" } : Jvm.MethodName)) ∈ lw_all := lw_g (lw_at lw_m5 87 rfl) rfl
theorem q1130 : (Jvm.Cond.selects "LifeKeys" ({ cls := "LifeKeys", name := "first", desc := "(II)I" } : Jvm.MethodName) ({ cls := "LifeKeys", name := "first", desc := "(II)I" } : Jvm.MethodName)) ∈ lw_all := lw_g (lw_at lw_m5 88 rfl) rfl
theorem q1131 : (Jvm.Cond.code ({ cls := "LifeKeys", name := "first", desc := "(II)I" } : Jvm.MethodName) prog_1_method_88_code (3 : Nat) (Option.some Jvm.ClassFile.FieldType.int)) ∈ lw_all := lw_g (lw_at lw_m5 89 rfl) rfl
theorem q1133 : (Jvm.Cond.instanceMethod ({ cls := "LifeKeys", name := "bette\x72", desc := "(I)I" } : Jvm.MethodName)) ∈ lw_all := lw_g (lw_at lw_m5 91 rfl) rfl
theorem q1134 : (Jvm.Cond.selects "LifeKeys" ({ cls := "LifeKeys", name := "bette\x72", desc := "(I)I" } : Jvm.MethodName) ({ cls := "LifeKeys", name := "bette\x72", desc := "(I)I" } : Jvm.MethodName)) ∈ lw_all := lw_g (lw_at lw_m5 92 rfl) rfl
theorem q1135 : (Jvm.Cond.code ({ cls := "LifeKeys", name := "bette\x72", desc := "(I)I" } : Jvm.MethodName) prog_1_method_90_code (6 : Nat) (Option.some Jvm.ClassFile.FieldType.int)) ∈ lw_all := lw_g (lw_at lw_m5 93 rfl) rfl
theorem q1136 : (Jvm.Cond.methodLink "LifeKeys" (504 : Nat) ({ cls := "LifeKeys", name := "isSafe", desc := "(I)Z" } : Jvm.MethodName)) ∈ lw_all := lw_g (lw_at lw_m5 94 rfl) rfl
theorem q1137 : (Jvm.Cond.privateMethod ({ cls := "LifeKeys", name := "isSafe", desc := "(I)Z" } : Jvm.MethodName)) ∈ lw_tbl := lw_at lw_m5 95 rfl
theorem q1138 : (Jvm.Cond.instanceMethod ({ cls := "LifeKeys", name := "isSafe", desc := "(I)Z" } : Jvm.MethodName)) ∈ lw_all := lw_g (lw_at lw_m5 96 rfl) rfl
theorem q1139 : (Jvm.Cond.code ({ cls := "LifeKeys", name := "isSafe", desc := "(I)Z" } : Jvm.MethodName) prog_1_method_89_code (3 : Nat) (Option.some Jvm.ClassFile.FieldType.boolean)) ∈ lw_all := lw_g (lw_at lw_m5 97 rfl) rfl
theorem q1140 : (Jvm.Cond.methodLink "LifeKeys" (507 : Nat) ({ cls := "java/lang/Math", name := "abs", desc := "(I)I" } : Jvm.MethodName)) ∈ lw_all := lw_g (lw_at lw_m5 98 rfl) rfl
theorem q1144 : (Jvm.Cond.instanceMethod ({ cls := "LifeKeys", name := "orde\x72", desc := "(II)I" } : Jvm.MethodName)) ∈ lw_all := lw_g (lw_at lw_m5 102 rfl) rfl
theorem q1145 : (Jvm.Cond.selects "LifeKeys" ({ cls := "LifeKeys", name := "orde\x72", desc := "(II)I" } : Jvm.MethodName) ({ cls := "LifeKeys", name := "orde\x72", desc := "(II)I" } : Jvm.MethodName)) ∈ lw_all := lw_g (lw_at lw_m5 103 rfl) rfl
theorem q1146 : (Jvm.Cond.code ({ cls := "LifeKeys", name := "orde\x72", desc := "(II)I" } : Jvm.MethodName) prog_1_method_92_code (10 : Nat) (Option.some Jvm.ClassFile.FieldType.int)) ∈ lw_all := lw_g (lw_at lw_m5 104 rfl) rfl
theorem q1147 : (Jvm.Cond.methodLink "LifeKeys" (515 : Nat) ({ cls := "LifeKeys", name := "isFree", desc := "(LLifeKeys$Key;JJ)Z" } : Jvm.MethodName)) ∈ lw_all := lw_g (lw_at lw_m5 105 rfl) rfl
theorem q1148 : (Jvm.Cond.privateMethod ({ cls := "LifeKeys", name := "isFree", desc := "(LLifeKeys$Key;JJ)Z" } : Jvm.MethodName)) ∈ lw_tbl := lw_at lw_m5 106 rfl
theorem q1149 : (Jvm.Cond.instanceMethod ({ cls := "LifeKeys", name := "isFree", desc := "(LLifeKeys$Key;JJ)Z" } : Jvm.MethodName)) ∈ lw_all := lw_g (lw_at lw_m5 107 rfl) rfl
theorem q1150 : (Jvm.Cond.code ({ cls := "LifeKeys", name := "isFree", desc := "(LLifeKeys$Key;JJ)Z" } : Jvm.MethodName) prog_1_method_91_code (9 : Nat) (Option.some Jvm.ClassFile.FieldType.boolean)) ∈ lw_all := lw_g (lw_at lw_m5 108 rfl) rfl
theorem q1151 : (Jvm.Cond.methodLink "LifeKeys" (511 : Nat) ({ cls := "LifeKeys$Wrap", name := "isOn", desc := "(I)Z" } : Jvm.MethodName)) ∈ lw_all := lw_g (lw_at lw_m5 109 rfl) rfl
theorem q1156 : (Jvm.Cond.instanceMethod ({ cls := "LifeKeys", name := "count", desc := "(I)I" } : Jvm.MethodName)) ∈ lw_all := lw_g (lw_at lw_m5 114 rfl) rfl
theorem q1157 : (Jvm.Cond.selects "LifeKeys" ({ cls := "LifeKeys", name := "count", desc := "(I)I" } : Jvm.MethodName) ({ cls := "LifeKeys", name := "count", desc := "(I)I" } : Jvm.MethodName)) ∈ lw_all := lw_g (lw_at lw_m5 115 rfl) rfl
theorem q1158 : (Jvm.Cond.code ({ cls := "LifeKeys", name := "count", desc := "(I)I" } : Jvm.MethodName) prog_1_method_93_code (6 : Nat) (Option.some Jvm.ClassFile.FieldType.int)) ∈ lw_all := lw_g (lw_at lw_m5 116 rfl) rfl
theorem q1164 : (Jvm.Cond.instanceMethod ({ cls := "LifeKeys", name := "open", desc := "(I)I" } : Jvm.MethodName)) ∈ lw_all := lw_g (lw_at lw_m5 122 rfl) rfl
theorem q1165 : (Jvm.Cond.selects "LifeKeys" ({ cls := "LifeKeys", name := "open", desc := "(I)I" } : Jvm.MethodName) ({ cls := "LifeKeys", name := "open", desc := "(I)I" } : Jvm.MethodName)) ∈ lw_all := lw_g (lw_at lw_m5 123 rfl) rfl
theorem q1166 : (Jvm.Cond.code ({ cls := "LifeKeys", name := "open", desc := "(I)I" } : Jvm.MethodName) prog_1_method_19_code (2 : Nat) (Option.some Jvm.ClassFile.FieldType.int)) ∈ lw_all := lw_g (lw_at lw_m5 124 rfl) rfl
theorem q1167 : (Jvm.Cond.classLink "LifeKeys" (153 : Nat) "java/util/NoSuchElementException") ∈ lw_all := lw_g (lw_at lw_m5 125 rfl) rfl
theorem q1178 : (Jvm.Cond.methodLink "LifeKeys" (155 : Nat) ({ cls := "java/util/NoSuchElementException", name := "<init>", desc := "()V" } : Jvm.MethodName)) ∈ lw_all := lw_g (lw_at lw_m5 136 rfl) rfl
theorem q1878 : (Jvm.Cond.castable "LifeKeys" "java/lang/Object") ∈ lw_tbl := lw_at lw_m8 116 rfl
theorem in_X1 : ∀ w ∈ wsX10, w ∈ lw_all := lw_in wsX10 [231, 233, 235, 237, 239, 241, 243, 245, 247, 249, 251, 253, 255, 257, 259, 261, 263, 265, 267, 269, 271, 273, 275, 277, 279, 281, 283, 285, 287, 289, 291, 293, 295, 297, 299, 301, 303, 305] (by decide +kernel) (by decide +kernel)
