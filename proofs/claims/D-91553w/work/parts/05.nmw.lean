/-! LifeKeysModel -/
set_option maxRecDepth 100000
def RX3 : String := "LifeKeysModel"
def TX3 : u_T := fun k => match k with
  | 0 => ("LifeKeysModel", "thrown", "I", false)
  | 1 => ("LifeKeysModel", "now", "I", false)
  | 2 => ("LifeKeysModel", "sort", "[I", true)
  | 3 => ("LifeKeysModel", "secret", "[I", true)
  | 4 => ("LifeKeysModel", "rootOf", "[I", true)
  | 5 => ("LifeKeysModel", "keyDay", "[I", true)
  | 6 => ("LifeKeysModel", "oldFrom", "[I", true)
  | 7 => ("LifeKeysModel", "giveHolde\x72", "[I", true)
  | 8 => ("LifeKeysModel", "giveKey", "[I", true)
  | 9 => ("LifeKeysModel", "giveDay", "[I", true)
  | 10 => ("LifeKeysModel", "isGiving", "[Z", true)
  | 11 => ("LifeKeysModel", "isFalse", "[Z", true)
  | 12 => ("LifeKeysModel", "holders", "I", false)
  | 13 => ("LifeKeysModel", "keys", "I", false)
  | 14 => ("LifeKeysModel", "gives", "I", false)
  | 15 => ("LifeKeysModel", "tape", "[B", true)
  | 16 => ("LifeKeysModel", "length", "I", false)
  | 17 => ("LifeKeysModel", "inne\x72", "[I", true)
  | 18 => ("LifeKeysModel", "oute\x72", "[I", true)
  | 19 => ("LifeKeysModel", "wrapDay", "[I", true)
  | 20 => ("LifeKeysModel", "wrapEnd", "[I", true)
  | 21 => ("LifeKeysModel", "partKey", "[I", true)
  | 22 => ("LifeKeysModel", "partHolders", "[I", true)
  | 23 => ("LifeKeysModel", "partNeed", "[I", true)
  | 24 => ("LifeKeysModel", "partDay", "[I", true)
  | 25 => ("LifeKeysModel", "partEnd", "[I", true)
  | 26 => ("LifeKeysModel", "curve", "[I", true)
  | 27 => ("LifeKeysModel", "benchHolde\x72", "[I", true)
  | 28 => ("LifeKeysModel", "benchNumbe\x72", "[I", true)
  | 29 => ("LifeKeysModel", "wraps", "I", false)
  | 30 => ("LifeKeysModel", "partings", "I", false)
  | 31 => ("LifeKeysModel", "bench", "I", false)
  | 32 => ("LifeKeysModel", "hasBits", "[J", true)
  | 33 => ("LifeKeysModel", "ruleText", "[B", true)
  | 34 => ("LifeKeysModel", "ruleLong", "[I", true)
  | 35 => ("LifeKeysModel", "deathHolde\x72", "[I", true)
  | 36 => ("LifeKeysModel", "deathRule", "[I", true)
  | 37 => ("LifeKeysModel", "deathTold", "[I", true)
  | 38 => ("LifeKeysModel", "digest", "[I", true)
  | 39 => ("LifeKeysModel", "sealedTo", "[I", true)
  | 40 => ("LifeKeysModel", "askedOn", "[I", true)
  | 41 => ("LifeKeysModel", "sayHolde\x72", "[I", true)
  | 42 => ("LifeKeysModel", "sayOf", "[I", true)
  | 43 => ("LifeKeysModel", "sayDay", "[I", true)
  | 44 => ("LifeKeysModel", "isByRule", "[Z", true)
  | 45 => ("LifeKeysModel", "isOpened", "[Z", true)
  | 46 => ("LifeKeysModel", "isYes", "[Z", true)
  | 47 => ("LifeKeysModel", "isOfDeath", "[Z", true)
  | 48 => ("LifeKeysModel", "rules", "I", false)
  | 49 => ("LifeKeysModel", "deaths", "I", false)
  | 50 => ("LifeKeysModel", "things", "I", false)
  | 51 => ("LifeKeysModel", "sayings", "I", false)
  | 52 => ("LifeKeysModel", "text", "[B", false)
  | 53 => ("LifeKeysModel", "begins", "I", false)
  | 54 => ("LifeKeysModel", "ends", "I", false)
  | 55 => ("LifeKeysModel", "at", "I", false)
  | 56 => ("LifeKeysModel", "fault", "I", false)
  | 57 => ("LifeKeysModel", "deep", "I", false)
  | 58 => ("LifeKeysModel", "of", "I", false)
  | 59 => ("LifeKeysModel", "day", "I", false)
  | 60 => ("LifeKeysModel", "seen", "I", false)
  | 61 => ("LifeKeysModel", "first", "I", false)
  | 62 => ("LifeKeysModel", "ofDeath", "Z", false)
  | 63 => ("LifeKeysModel", "isDead", "[Z", true)
  | 64 => ("LifeKeysModel", "signR", "[I", true)
  | 65 => ("LifeKeysModel", "signS", "[I", true)
  | 66 => ("LifeKeysModel", "signKey", "[I", true)
  | 67 => ("LifeKeysModel", "signThing", "[I", true)
  | 68 => ("LifeKeysModel", "signDay", "[I", true)
  | 69 => ("LifeKeysModel", "burnKey", "[I", true)
  | 70 => ("LifeKeysModel", "burnDay", "[I", true)
  | 71 => ("LifeKeysModel", "burnTold", "[I", true)
  | 72 => ("LifeKeysModel", "lentKey", "[I", true)
  | 73 => ("LifeKeysModel", "lentTo", "[I", true)
  | 74 => ("LifeKeysModel", "lentUses", "[I", true)
  | 75 => ("LifeKeysModel", "lentThing", "[I", true)
  | 76 => ("LifeKeysModel", "isBack", "[Z", true)
  | 77 => ("LifeKeysModel", "signatures", "I", false)
  | 78 => ("LifeKeysModel", "burns", "I", false)
  | 79 => ("LifeKeysModel", "lents", "I", false)
  | 80 => ("LifeKeysModel", "fallSet", "[I", true)
  | 81 => ("LifeKeysModel", "orde\x72", "[I", true)
  | 82 => ("LifeKeysModel", "falls", "I", false)
  | 83 => ("LifeKeysModel", "bestSet", "I", false)
  | _ => ("LifeKeysModel", "wayMany", "I", false)
def tyX3 : Nat → FieldType := fun k => match k with
  | 0 => .int
  | 1 => .int
  | 2 => .array .int
  | 3 => .array .int
  | 4 => .array .int
  | 5 => .array .int
  | 6 => .array .int
  | 7 => .array .int
  | 8 => .array .int
  | 9 => .array .int
  | 10 => .array .boolean
  | 11 => .array .boolean
  | 12 => .int
  | 13 => .int
  | 14 => .int
  | 15 => .array .byte
  | 16 => .int
  | 17 => .array .int
  | 18 => .array .int
  | 19 => .array .int
  | 20 => .array .int
  | 21 => .array .int
  | 22 => .array .int
  | 23 => .array .int
  | 24 => .array .int
  | 25 => .array .int
  | 26 => .array .int
  | 27 => .array .int
  | 28 => .array .int
  | 29 => .int
  | 30 => .int
  | 31 => .int
  | 32 => .array .long
  | 33 => .array .byte
  | 34 => .array .int
  | 35 => .array .int
  | 36 => .array .int
  | 37 => .array .int
  | 38 => .array .int
  | 39 => .array .int
  | 40 => .array .int
  | 41 => .array .int
  | 42 => .array .int
  | 43 => .array .int
  | 44 => .array .boolean
  | 45 => .array .boolean
  | 46 => .array .boolean
  | 47 => .array .boolean
  | 48 => .int
  | 49 => .int
  | 50 => .int
  | 51 => .int
  | 52 => .array .byte
  | 53 => .int
  | 54 => .int
  | 55 => .int
  | 56 => .int
  | 57 => .int
  | 58 => .int
  | 59 => .int
  | 60 => .int
  | 61 => .int
  | 62 => .boolean
  | 63 => .array .boolean
  | 64 => .array .int
  | 65 => .array .int
  | 66 => .array .int
  | 67 => .array .int
  | 68 => .array .int
  | 69 => .array .int
  | 70 => .array .int
  | 71 => .array .int
  | 72 => .array .int
  | 73 => .array .int
  | 74 => .array .int
  | 75 => .array .int
  | 76 => .array .boolean
  | 77 => .int
  | 78 => .int
  | 79 => .int
  | 80 => .array .int
  | 81 => .array .int
  | 82 => .int
  | 83 => .int
  | _ => .int
abbrev wsX30 : List Cond := u_ws RX3 TX3 85
set_option maxRecDepth 100000 in
theorem nmX3 : ∀ a, a < 85 → ∀ b, b < 85 → a ≠ b → (TX3 a).2.1 ≠ (TX3 b).2.1 := by decide +kernel
set_option maxRecDepth 100000 in
theorem tyX3_ok : ∀ k, k < 85 → parseFieldDescriptor (TX3 k).2.2.1 = some (tyX3 k) := by decide +kernel
theorem q87 : (Jvm.Cond.initialized "LifeKeysModel") ∈ lw_all := lw_g (lw_at lw_m1 5 rfl) rfl
theorem q1188 : (Jvm.Cond.instantiable "LifeKeysModel" (85 : Nat)) ∈ lw_all := lw_g (lw_at lw_m5 146 rfl) rfl
theorem q1190 : (Jvm.Cond.instanceMethod ({ cls := "LifeKeysModel", name := "<init>", desc := "()V" } : Jvm.MethodName)) ∈ lw_all := lw_g (lw_at lw_m5 148 rfl) rfl
theorem q1191 : (Jvm.Cond.code ({ cls := "LifeKeysModel", name := "<init>", desc := "()V" } : Jvm.MethodName) prog_22_method_1_code (1 : Nat) (Option.none : Option Jvm.ClassFile.FieldType)) ∈ lw_all := lw_g (lw_at lw_m5 149 rfl) rfl
theorem q1192 : (Jvm.Cond.methodLink "LifeKeysModel" (1 : Nat) ({ cls := "java/lang/Object", name := "<init>", desc := "()V" } : Jvm.MethodName)) ∈ lw_all := lw_g (lw_at lw_m5 150 rfl) rfl
theorem q1193 : (Jvm.Cond.fieldLink "LifeKeysModel" (181 : Nat) "LifeKeysModel" "thrown" "I") ∈ lw_all := lw_g (lw_at lw_m5 151 rfl) rfl
theorem q1194 : (Jvm.Cond.fieldLink "LifeKeysModel" (185 : Nat) "LifeKeysModel" "now" "I") ∈ lw_all := lw_g (lw_at lw_m5 152 rfl) rfl
theorem q1195 : (Jvm.Cond.fieldLink "LifeKeysModel" (9 : Nat) "LifeKeysModel" "sort" "[I") ∈ lw_all := lw_g (lw_at lw_m5 153 rfl) rfl
theorem q1196 : (Jvm.Cond.fieldLink "LifeKeysModel" (13 : Nat) "LifeKeysModel" "secret" "[I") ∈ lw_all := lw_g (lw_at lw_m5 154 rfl) rfl
theorem q1197 : (Jvm.Cond.fieldLink "LifeKeysModel" (16 : Nat) "LifeKeysModel" "rootOf" "[I") ∈ lw_all := lw_g (lw_at lw_m5 155 rfl) rfl
theorem q1198 : (Jvm.Cond.fieldLink "LifeKeysModel" (19 : Nat) "LifeKeysModel" "keyDay" "[I") ∈ lw_all := lw_g (lw_at lw_m5 156 rfl) rfl
theorem q1199 : (Jvm.Cond.fieldLink "LifeKeysModel" (22 : Nat) "LifeKeysModel" "oldFrom" "[I") ∈ lw_all := lw_g (lw_at lw_m5 157 rfl) rfl
theorem q1200 : (Jvm.Cond.fieldLink "LifeKeysModel" (25 : Nat) "LifeKeysModel" "giveHolde\x72" "[I") ∈ lw_all := lw_g (lw_at lw_m5 158 rfl) rfl
theorem q1201 : (Jvm.Cond.fieldLink "LifeKeysModel" (28 : Nat) "LifeKeysModel" "giveKey" "[I") ∈ lw_all := lw_g (lw_at lw_m5 159 rfl) rfl
theorem q1202 : (Jvm.Cond.fieldLink "LifeKeysModel" (31 : Nat) "LifeKeysModel" "giveDay" "[I") ∈ lw_all := lw_g (lw_at lw_m5 160 rfl) rfl
theorem q1203 : (Jvm.Cond.fieldLink "LifeKeysModel" (34 : Nat) "LifeKeysModel" "isGiving" "[Z") ∈ lw_all := lw_g (lw_at lw_m5 161 rfl) rfl
theorem q1204 : (Jvm.Cond.fieldLink "LifeKeysModel" (38 : Nat) "LifeKeysModel" "isFalse" "[Z") ∈ lw_all := lw_g (lw_at lw_m5 162 rfl) rfl
theorem q1205 : (Jvm.Cond.fieldLink "LifeKeysModel" (196 : Nat) "LifeKeysModel" "holders" "I") ∈ lw_all := lw_g (lw_at lw_m5 163 rfl) rfl
theorem q1206 : (Jvm.Cond.fieldLink "LifeKeysModel" (199 : Nat) "LifeKeysModel" "keys" "I") ∈ lw_all := lw_g (lw_at lw_m5 164 rfl) rfl
theorem q1207 : (Jvm.Cond.fieldLink "LifeKeysModel" (223 : Nat) "LifeKeysModel" "gives" "I") ∈ lw_all := lw_g (lw_at lw_m5 165 rfl) rfl
theorem q1208 : (Jvm.Cond.fieldLink "LifeKeysModel" (41 : Nat) "LifeKeysModel" "tape" "[B") ∈ lw_all := lw_g (lw_at lw_m5 166 rfl) rfl
theorem q1209 : (Jvm.Cond.fieldLink "LifeKeysModel" (205 : Nat) "LifeKeysModel" "length" "I") ∈ lw_all := lw_g (lw_at lw_m5 167 rfl) rfl
theorem q1210 : (Jvm.Cond.fieldLink "LifeKeysModel" (45 : Nat) "LifeKeysModel" "inne\x72" "[I") ∈ lw_all := lw_g (lw_at lw_m5 168 rfl) rfl
theorem q1211 : (Jvm.Cond.fieldLink "LifeKeysModel" (48 : Nat) "LifeKeysModel" "oute\x72" "[I") ∈ lw_all := lw_g (lw_at lw_m5 169 rfl) rfl
theorem q1212 : (Jvm.Cond.fieldLink "LifeKeysModel" (51 : Nat) "LifeKeysModel" "wrapDay" "[I") ∈ lw_all := lw_g (lw_at lw_m5 170 rfl) rfl
theorem q1213 : (Jvm.Cond.fieldLink "LifeKeysModel" (54 : Nat) "LifeKeysModel" "wrapEnd" "[I") ∈ lw_all := lw_g (lw_at lw_m5 171 rfl) rfl
theorem q1214 : (Jvm.Cond.fieldLink "LifeKeysModel" (57 : Nat) "LifeKeysModel" "partKey" "[I") ∈ lw_all := lw_g (lw_at lw_m5 172 rfl) rfl
theorem q1215 : (Jvm.Cond.fieldLink "LifeKeysModel" (60 : Nat) "LifeKeysModel" "partHolders" "[I") ∈ lw_all := lw_g (lw_at lw_m5 173 rfl) rfl
theorem q1216 : (Jvm.Cond.fieldLink "LifeKeysModel" (63 : Nat) "LifeKeysModel" "partNeed" "[I") ∈ lw_all := lw_g (lw_at lw_m5 174 rfl) rfl
theorem q1217 : (Jvm.Cond.fieldLink "LifeKeysModel" (66 : Nat) "LifeKeysModel" "partDay" "[I") ∈ lw_all := lw_g (lw_at lw_m5 175 rfl) rfl
theorem q1218 : (Jvm.Cond.fieldLink "LifeKeysModel" (69 : Nat) "LifeKeysModel" "partEnd" "[I") ∈ lw_all := lw_g (lw_at lw_m5 176 rfl) rfl
theorem q1219 : (Jvm.Cond.fieldLink "LifeKeysModel" (72 : Nat) "LifeKeysModel" "curve" "[I") ∈ lw_all := lw_g (lw_at lw_m5 177 rfl) rfl
theorem q1220 : (Jvm.Cond.fieldLink "LifeKeysModel" (75 : Nat) "LifeKeysModel" "benchHolde\x72" "[I") ∈ lw_all := lw_g (lw_at lw_m5 178 rfl) rfl
theorem q1221 : (Jvm.Cond.fieldLink "LifeKeysModel" (78 : Nat) "LifeKeysModel" "benchNumbe\x72" "[I") ∈ lw_all := lw_g (lw_at lw_m5 179 rfl) rfl
theorem q1222 : (Jvm.Cond.fieldLink "LifeKeysModel" (236 : Nat) "LifeKeysModel" "wraps" "I") ∈ lw_all := lw_g (lw_at lw_m5 180 rfl) rfl
theorem q1223 : (Jvm.Cond.fieldLink "LifeKeysModel" (243 : Nat) "LifeKeysModel" "partings" "I") ∈ lw_all := lw_g (lw_at lw_m5 181 rfl) rfl
theorem q1224 : (Jvm.Cond.fieldLink "LifeKeysModel" (277 : Nat) "LifeKeysModel" "bench" "I") ∈ lw_all := lw_g (lw_at lw_m5 182 rfl) rfl
theorem q1225 : (Jvm.Cond.fieldLink "LifeKeysModel" (81 : Nat) "LifeKeysModel" "hasBits" "[J") ∈ lw_all := lw_g (lw_at lw_m5 183 rfl) rfl
theorem q1226 : (Jvm.Cond.fieldLink "LifeKeysModel" (85 : Nat) "LifeKeysModel" "ruleText" "[B") ∈ lw_all := lw_g (lw_at lw_m5 184 rfl) rfl
theorem q1227 : (Jvm.Cond.fieldLink "LifeKeysModel" (88 : Nat) "LifeKeysModel" "ruleLong" "[I") ∈ lw_all := lw_g (lw_at lw_m5 185 rfl) rfl
theorem q1228 : (Jvm.Cond.fieldLink "LifeKeysModel" (91 : Nat) "LifeKeysModel" "deathHolde\x72" "[I") ∈ lw_all := lw_g (lw_at lw_m5 186 rfl) rfl
theorem q1229 : (Jvm.Cond.fieldLink "LifeKeysModel" (94 : Nat) "LifeKeysModel" "deathRule" "[I") ∈ lw_all := lw_g (lw_at lw_m5 187 rfl) rfl
theorem q1230 : (Jvm.Cond.fieldLink "LifeKeysModel" (97 : Nat) "LifeKeysModel" "deathTold" "[I") ∈ lw_all := lw_g (lw_at lw_m5 188 rfl) rfl
theorem q1231 : (Jvm.Cond.fieldLink "LifeKeysModel" (100 : Nat) "LifeKeysModel" "digest" "[I") ∈ lw_all := lw_g (lw_at lw_m5 189 rfl) rfl
theorem q1232 : (Jvm.Cond.fieldLink "LifeKeysModel" (103 : Nat) "LifeKeysModel" "sealedTo" "[I") ∈ lw_all := lw_g (lw_at lw_m5 190 rfl) rfl
theorem q1233 : (Jvm.Cond.fieldLink "LifeKeysModel" (106 : Nat) "LifeKeysModel" "askedOn" "[I") ∈ lw_all := lw_g (lw_at lw_m5 191 rfl) rfl
theorem q1234 : (Jvm.Cond.fieldLink "LifeKeysModel" (109 : Nat) "LifeKeysModel" "sayHolde\x72" "[I") ∈ lw_all := lw_g (lw_at lw_m5 192 rfl) rfl
theorem q1235 : (Jvm.Cond.fieldLink "LifeKeysModel" (112 : Nat) "LifeKeysModel" "sayOf" "[I") ∈ lw_all := lw_g (lw_at lw_m5 193 rfl) rfl
theorem q1236 : (Jvm.Cond.fieldLink "LifeKeysModel" (115 : Nat) "LifeKeysModel" "sayDay" "[I") ∈ lw_all := lw_g (lw_at lw_m5 194 rfl) rfl
theorem q1237 : (Jvm.Cond.fieldLink "LifeKeysModel" (118 : Nat) "LifeKeysModel" "isByRule" "[Z") ∈ lw_all := lw_g (lw_at lw_m5 195 rfl) rfl
theorem q1238 : (Jvm.Cond.fieldLink "LifeKeysModel" (121 : Nat) "LifeKeysModel" "isOpened" "[Z") ∈ lw_all := lw_g (lw_at lw_m5 196 rfl) rfl
theorem q1239 : (Jvm.Cond.fieldLink "LifeKeysModel" (124 : Nat) "LifeKeysModel" "isYes" "[Z") ∈ lw_all := lw_g (lw_at lw_m5 197 rfl) rfl
theorem q1240 : (Jvm.Cond.fieldLink "LifeKeysModel" (127 : Nat) "LifeKeysModel" "isOfDeath" "[Z") ∈ lw_all := lw_g (lw_at lw_m5 198 rfl) rfl
theorem q1241 : (Jvm.Cond.fieldLink "LifeKeysModel" (400 : Nat) "LifeKeysModel" "rules" "I") ∈ lw_all := lw_g (lw_at lw_m5 199 rfl) rfl
theorem q1242 : (Jvm.Cond.fieldLink "LifeKeysModel" (388 : Nat) "LifeKeysModel" "deaths" "I") ∈ lw_all := lw_g (lw_at lw_m5 200 rfl) rfl
theorem q1243 : (Jvm.Cond.fieldLink "LifeKeysModel" (406 : Nat) "LifeKeysModel" "things" "I") ∈ lw_all := lw_g (lw_at lw_m5 201 rfl) rfl
theorem q1244 : (Jvm.Cond.fieldLink "LifeKeysModel" (375 : Nat) "LifeKeysModel" "sayings" "I") ∈ lw_all := lw_g (lw_at lw_m5 202 rfl) rfl
theorem q1245 : (Jvm.Cond.fieldLink "LifeKeysModel" (130 : Nat) "LifeKeysModel" "text" "[B") ∈ lw_all := lw_g (lw_at lw_m5 203 rfl) rfl
theorem q1246 : (Jvm.Cond.fieldLink "LifeKeysModel" (322 : Nat) "LifeKeysModel" "begins" "I") ∈ lw_all := lw_g (lw_at lw_m5 204 rfl) rfl
theorem q1247 : (Jvm.Cond.fieldLink "LifeKeysModel" (319 : Nat) "LifeKeysModel" "ends" "I") ∈ lw_all := lw_g (lw_at lw_m5 205 rfl) rfl
theorem q1248 : (Jvm.Cond.fieldLink "LifeKeysModel" (316 : Nat) "LifeKeysModel" "at" "I") ∈ lw_all := lw_g (lw_at lw_m5 206 rfl) rfl
theorem q1249 : (Jvm.Cond.fieldLink "LifeKeysModel" (325 : Nat) "LifeKeysModel" "fault" "I") ∈ lw_all := lw_g (lw_at lw_m5 207 rfl) rfl
theorem q1250 : (Jvm.Cond.fieldLink "LifeKeysModel" (328 : Nat) "LifeKeysModel" "deep" "I") ∈ lw_all := lw_g (lw_at lw_m5 208 rfl) rfl
theorem q1251 : (Jvm.Cond.fieldLink "LifeKeysModel" (378 : Nat) "LifeKeysModel" "of" "I") ∈ lw_all := lw_g (lw_at lw_m5 209 rfl) rfl
theorem q1252 : (Jvm.Cond.fieldLink "LifeKeysModel" (372 : Nat) "LifeKeysModel" "day" "I") ∈ lw_all := lw_g (lw_at lw_m5 210 rfl) rfl
theorem q1253 : (Jvm.Cond.fieldLink "LifeKeysModel" (381 : Nat) "LifeKeysModel" "seen" "I") ∈ lw_all := lw_g (lw_at lw_m5 211 rfl) rfl
theorem q1254 : (Jvm.Cond.fieldLink "LifeKeysModel" (369 : Nat) "LifeKeysModel" "first" "I") ∈ lw_all := lw_g (lw_at lw_m5 212 rfl) rfl
theorem q1255 : (Jvm.Cond.fieldLink "LifeKeysModel" (360 : Nat) "LifeKeysModel" "ofDeath" "Z") ∈ lw_all := lw_g (lw_at lw_m5 213 rfl) rfl
theorem q1256 : (Jvm.Cond.fieldLink "LifeKeysModel" (133 : Nat) "LifeKeysModel" "isDead" "[Z") ∈ lw_all := lw_g (lw_at lw_m5 214 rfl) rfl
theorem q1257 : (Jvm.Cond.fieldLink "LifeKeysModel" (136 : Nat) "LifeKeysModel" "signR" "[I") ∈ lw_all := lw_g (lw_at lw_m5 215 rfl) rfl
theorem q1258 : (Jvm.Cond.fieldLink "LifeKeysModel" (139 : Nat) "LifeKeysModel" "signS" "[I") ∈ lw_all := lw_g (lw_at lw_m5 216 rfl) rfl
theorem q1259 : (Jvm.Cond.fieldLink "LifeKeysModel" (142 : Nat) "LifeKeysModel" "signKey" "[I") ∈ lw_all := lw_g (lw_at lw_m5 217 rfl) rfl
theorem q1260 : (Jvm.Cond.fieldLink "LifeKeysModel" (145 : Nat) "LifeKeysModel" "signThing" "[I") ∈ lw_all := lw_g (lw_at lw_m5 218 rfl) rfl
theorem q1261 : (Jvm.Cond.fieldLink "LifeKeysModel" (148 : Nat) "LifeKeysModel" "signDay" "[I") ∈ lw_all := lw_g (lw_at lw_m5 219 rfl) rfl
theorem q1262 : (Jvm.Cond.fieldLink "LifeKeysModel" (151 : Nat) "LifeKeysModel" "burnKey" "[I") ∈ lw_all := lw_g (lw_at lw_m5 220 rfl) rfl
theorem q1263 : (Jvm.Cond.fieldLink "LifeKeysModel" (154 : Nat) "LifeKeysModel" "burnDay" "[I") ∈ lw_all := lw_g (lw_at lw_m5 221 rfl) rfl
theorem q1264 : (Jvm.Cond.fieldLink "LifeKeysModel" (157 : Nat) "LifeKeysModel" "burnTold" "[I") ∈ lw_all := lw_g (lw_at lw_m5 222 rfl) rfl
theorem q1265 : (Jvm.Cond.fieldLink "LifeKeysModel" (160 : Nat) "LifeKeysModel" "lentKey" "[I") ∈ lw_all := lw_g (lw_at lw_m5 223 rfl) rfl
theorem q1266 : (Jvm.Cond.fieldLink "LifeKeysModel" (163 : Nat) "LifeKeysModel" "lentTo" "[I") ∈ lw_all := lw_g (lw_at lw_m5 224 rfl) rfl
theorem q1267 : (Jvm.Cond.fieldLink "LifeKeysModel" (166 : Nat) "LifeKeysModel" "lentUses" "[I") ∈ lw_all := lw_g (lw_at lw_m5 225 rfl) rfl
theorem q1268 : (Jvm.Cond.fieldLink "LifeKeysModel" (169 : Nat) "LifeKeysModel" "lentThing" "[I") ∈ lw_all := lw_g (lw_at lw_m5 226 rfl) rfl
theorem q1269 : (Jvm.Cond.fieldLink "LifeKeysModel" (172 : Nat) "LifeKeysModel" "isBack" "[Z") ∈ lw_all := lw_g (lw_at lw_m5 227 rfl) rfl
theorem q1270 : (Jvm.Cond.fieldLink "LifeKeysModel" (428 : Nat) "LifeKeysModel" "signatures" "I") ∈ lw_all := lw_g (lw_at lw_m5 228 rfl) rfl
theorem q1271 : (Jvm.Cond.fieldLink "LifeKeysModel" (422 : Nat) "LifeKeysModel" "burns" "I") ∈ lw_all := lw_g (lw_at lw_m5 229 rfl) rfl
theorem q1272 : (Jvm.Cond.fieldLink "LifeKeysModel" (444 : Nat) "LifeKeysModel" "lents" "I") ∈ lw_all := lw_g (lw_at lw_m5 230 rfl) rfl
theorem q1273 : (Jvm.Cond.fieldLink "LifeKeysModel" (175 : Nat) "LifeKeysModel" "fallSet" "[I") ∈ lw_all := lw_g (lw_at lw_m5 231 rfl) rfl
theorem q1274 : (Jvm.Cond.fieldLink "LifeKeysModel" (178 : Nat) "LifeKeysModel" "orde\x72" "[I") ∈ lw_all := lw_g (lw_at lw_m5 232 rfl) rfl
theorem q1275 : (Jvm.Cond.fieldLink "LifeKeysModel" (447 : Nat) "LifeKeysModel" "falls" "I") ∈ lw_all := lw_g (lw_at lw_m5 233 rfl) rfl
theorem q1276 : (Jvm.Cond.fieldLink "LifeKeysModel" (460 : Nat) "LifeKeysModel" "bestSet" "I") ∈ lw_all := lw_g (lw_at lw_m5 234 rfl) rfl
theorem q1277 : (Jvm.Cond.fieldLink "LifeKeysModel" (463 : Nat) "LifeKeysModel" "wayMany" "I") ∈ lw_all := lw_g (lw_at lw_m5 235 rfl) rfl
theorem q1278 : (Jvm.Cond.lays "LifeKeysModel" "LifeKeysModel" "thrown" "I") ∈ lw_all := lw_g (lw_at lw_m5 236 rfl) rfl
theorem q1279 : (Jvm.Cond.soleField "LifeKeysModel" "thrown") ∈ lw_all := lw_g (lw_at lw_m5 237 rfl) rfl
theorem q1280 : (Jvm.Cond.lays "LifeKeysModel" "LifeKeysModel" "now" "I") ∈ lw_all := lw_g (lw_at lw_m5 238 rfl) rfl
theorem q1281 : (Jvm.Cond.soleField "LifeKeysModel" "now") ∈ lw_all := lw_g (lw_at lw_m5 239 rfl) rfl
theorem q1282 : (Jvm.Cond.laysFinal "LifeKeysModel" "LifeKeysModel" "sort" "[I") ∈ lw_all := lw_g (lw_at lw_m6 0 rfl) rfl
theorem q1283 : (Jvm.Cond.soleField "LifeKeysModel" "sort") ∈ lw_all := lw_g (lw_at lw_m6 1 rfl) rfl
theorem q1284 : (Jvm.Cond.laysFinal "LifeKeysModel" "LifeKeysModel" "secret" "[I") ∈ lw_all := lw_g (lw_at lw_m6 2 rfl) rfl
theorem q1285 : (Jvm.Cond.soleField "LifeKeysModel" "secret") ∈ lw_all := lw_g (lw_at lw_m6 3 rfl) rfl
theorem q1286 : (Jvm.Cond.laysFinal "LifeKeysModel" "LifeKeysModel" "rootOf" "[I") ∈ lw_all := lw_g (lw_at lw_m6 4 rfl) rfl
theorem q1287 : (Jvm.Cond.soleField "LifeKeysModel" "rootOf") ∈ lw_all := lw_g (lw_at lw_m6 5 rfl) rfl
theorem q1288 : (Jvm.Cond.laysFinal "LifeKeysModel" "LifeKeysModel" "keyDay" "[I") ∈ lw_all := lw_g (lw_at lw_m6 6 rfl) rfl
theorem q1289 : (Jvm.Cond.soleField "LifeKeysModel" "keyDay") ∈ lw_all := lw_g (lw_at lw_m6 7 rfl) rfl
theorem q1290 : (Jvm.Cond.laysFinal "LifeKeysModel" "LifeKeysModel" "oldFrom" "[I") ∈ lw_all := lw_g (lw_at lw_m6 8 rfl) rfl
theorem q1291 : (Jvm.Cond.soleField "LifeKeysModel" "oldFrom") ∈ lw_all := lw_g (lw_at lw_m6 9 rfl) rfl
theorem q1292 : (Jvm.Cond.laysFinal "LifeKeysModel" "LifeKeysModel" "giveHolde\x72" "[I") ∈ lw_all := lw_g (lw_at lw_m6 10 rfl) rfl
theorem q1293 : (Jvm.Cond.soleField "LifeKeysModel" "giveHolde\x72") ∈ lw_all := lw_g (lw_at lw_m6 11 rfl) rfl
theorem q1294 : (Jvm.Cond.laysFinal "LifeKeysModel" "LifeKeysModel" "giveKey" "[I") ∈ lw_all := lw_g (lw_at lw_m6 12 rfl) rfl
theorem q1295 : (Jvm.Cond.soleField "LifeKeysModel" "giveKey") ∈ lw_all := lw_g (lw_at lw_m6 13 rfl) rfl
theorem q1296 : (Jvm.Cond.laysFinal "LifeKeysModel" "LifeKeysModel" "giveDay" "[I") ∈ lw_all := lw_g (lw_at lw_m6 14 rfl) rfl
theorem q1297 : (Jvm.Cond.soleField "LifeKeysModel" "giveDay") ∈ lw_all := lw_g (lw_at lw_m6 15 rfl) rfl
theorem q1298 : (Jvm.Cond.laysFinal "LifeKeysModel" "LifeKeysModel" "isGiving" "[Z") ∈ lw_all := lw_g (lw_at lw_m6 16 rfl) rfl
theorem q1299 : (Jvm.Cond.soleField "LifeKeysModel" "isGiving") ∈ lw_all := lw_g (lw_at lw_m6 17 rfl) rfl
theorem q1300 : (Jvm.Cond.laysFinal "LifeKeysModel" "LifeKeysModel" "isFalse" "[Z") ∈ lw_all := lw_g (lw_at lw_m6 18 rfl) rfl
theorem q1301 : (Jvm.Cond.soleField "LifeKeysModel" "isFalse") ∈ lw_all := lw_g (lw_at lw_m6 19 rfl) rfl
theorem q1302 : (Jvm.Cond.lays "LifeKeysModel" "LifeKeysModel" "holders" "I") ∈ lw_all := lw_g (lw_at lw_m6 20 rfl) rfl
theorem q1303 : (Jvm.Cond.soleField "LifeKeysModel" "holders") ∈ lw_all := lw_g (lw_at lw_m6 21 rfl) rfl
theorem q1304 : (Jvm.Cond.lays "LifeKeysModel" "LifeKeysModel" "keys" "I") ∈ lw_all := lw_g (lw_at lw_m6 22 rfl) rfl
theorem q1305 : (Jvm.Cond.soleField "LifeKeysModel" "keys") ∈ lw_all := lw_g (lw_at lw_m6 23 rfl) rfl
theorem q1306 : (Jvm.Cond.lays "LifeKeysModel" "LifeKeysModel" "gives" "I") ∈ lw_all := lw_g (lw_at lw_m6 24 rfl) rfl
theorem q1307 : (Jvm.Cond.soleField "LifeKeysModel" "gives") ∈ lw_all := lw_g (lw_at lw_m6 25 rfl) rfl
theorem q1308 : (Jvm.Cond.laysFinal "LifeKeysModel" "LifeKeysModel" "tape" "[B") ∈ lw_all := lw_g (lw_at lw_m6 26 rfl) rfl
theorem q1309 : (Jvm.Cond.soleField "LifeKeysModel" "tape") ∈ lw_all := lw_g (lw_at lw_m6 27 rfl) rfl
theorem q1310 : (Jvm.Cond.lays "LifeKeysModel" "LifeKeysModel" "length" "I") ∈ lw_all := lw_g (lw_at lw_m6 28 rfl) rfl
theorem q1311 : (Jvm.Cond.soleField "LifeKeysModel" "length") ∈ lw_all := lw_g (lw_at lw_m6 29 rfl) rfl
theorem q1312 : (Jvm.Cond.laysFinal "LifeKeysModel" "LifeKeysModel" "inne\x72" "[I") ∈ lw_all := lw_g (lw_at lw_m6 30 rfl) rfl
theorem q1313 : (Jvm.Cond.soleField "LifeKeysModel" "inne\x72") ∈ lw_all := lw_g (lw_at lw_m6 31 rfl) rfl
theorem q1314 : (Jvm.Cond.laysFinal "LifeKeysModel" "LifeKeysModel" "oute\x72" "[I") ∈ lw_all := lw_g (lw_at lw_m6 32 rfl) rfl
theorem q1315 : (Jvm.Cond.soleField "LifeKeysModel" "oute\x72") ∈ lw_all := lw_g (lw_at lw_m6 33 rfl) rfl
theorem q1316 : (Jvm.Cond.laysFinal "LifeKeysModel" "LifeKeysModel" "wrapDay" "[I") ∈ lw_all := lw_g (lw_at lw_m6 34 rfl) rfl
theorem q1317 : (Jvm.Cond.soleField "LifeKeysModel" "wrapDay") ∈ lw_all := lw_g (lw_at lw_m6 35 rfl) rfl
theorem q1318 : (Jvm.Cond.laysFinal "LifeKeysModel" "LifeKeysModel" "wrapEnd" "[I") ∈ lw_all := lw_g (lw_at lw_m6 36 rfl) rfl
theorem q1319 : (Jvm.Cond.soleField "LifeKeysModel" "wrapEnd") ∈ lw_all := lw_g (lw_at lw_m6 37 rfl) rfl
theorem q1320 : (Jvm.Cond.laysFinal "LifeKeysModel" "LifeKeysModel" "partKey" "[I") ∈ lw_all := lw_g (lw_at lw_m6 38 rfl) rfl
theorem q1321 : (Jvm.Cond.soleField "LifeKeysModel" "partKey") ∈ lw_all := lw_g (lw_at lw_m6 39 rfl) rfl
theorem q1322 : (Jvm.Cond.laysFinal "LifeKeysModel" "LifeKeysModel" "partHolders" "[I") ∈ lw_all := lw_g (lw_at lw_m6 40 rfl) rfl
theorem q1323 : (Jvm.Cond.soleField "LifeKeysModel" "partHolders") ∈ lw_all := lw_g (lw_at lw_m6 41 rfl) rfl
theorem q1324 : (Jvm.Cond.laysFinal "LifeKeysModel" "LifeKeysModel" "partNeed" "[I") ∈ lw_all := lw_g (lw_at lw_m6 42 rfl) rfl
theorem q1325 : (Jvm.Cond.soleField "LifeKeysModel" "partNeed") ∈ lw_all := lw_g (lw_at lw_m6 43 rfl) rfl
theorem q1326 : (Jvm.Cond.laysFinal "LifeKeysModel" "LifeKeysModel" "partDay" "[I") ∈ lw_all := lw_g (lw_at lw_m6 44 rfl) rfl
theorem q1327 : (Jvm.Cond.soleField "LifeKeysModel" "partDay") ∈ lw_all := lw_g (lw_at lw_m6 45 rfl) rfl
theorem q1328 : (Jvm.Cond.laysFinal "LifeKeysModel" "LifeKeysModel" "partEnd" "[I") ∈ lw_all := lw_g (lw_at lw_m6 46 rfl) rfl
theorem q1329 : (Jvm.Cond.soleField "LifeKeysModel" "partEnd") ∈ lw_all := lw_g (lw_at lw_m6 47 rfl) rfl
theorem q1330 : (Jvm.Cond.laysFinal "LifeKeysModel" "LifeKeysModel" "curve" "[I") ∈ lw_all := lw_g (lw_at lw_m6 48 rfl) rfl
theorem q1331 : (Jvm.Cond.soleField "LifeKeysModel" "curve") ∈ lw_all := lw_g (lw_at lw_m6 49 rfl) rfl
theorem q1332 : (Jvm.Cond.laysFinal "LifeKeysModel" "LifeKeysModel" "benchHolde\x72" "[I") ∈ lw_all := lw_g (lw_at lw_m6 50 rfl) rfl
theorem q1333 : (Jvm.Cond.soleField "LifeKeysModel" "benchHolde\x72") ∈ lw_all := lw_g (lw_at lw_m6 51 rfl) rfl
theorem q1334 : (Jvm.Cond.laysFinal "LifeKeysModel" "LifeKeysModel" "benchNumbe\x72" "[I") ∈ lw_all := lw_g (lw_at lw_m6 52 rfl) rfl
theorem q1335 : (Jvm.Cond.soleField "LifeKeysModel" "benchNumbe\x72") ∈ lw_all := lw_g (lw_at lw_m6 53 rfl) rfl
theorem q1336 : (Jvm.Cond.lays "LifeKeysModel" "LifeKeysModel" "wraps" "I") ∈ lw_all := lw_g (lw_at lw_m6 54 rfl) rfl
theorem q1337 : (Jvm.Cond.soleField "LifeKeysModel" "wraps") ∈ lw_all := lw_g (lw_at lw_m6 55 rfl) rfl
theorem q1338 : (Jvm.Cond.lays "LifeKeysModel" "LifeKeysModel" "partings" "I") ∈ lw_all := lw_g (lw_at lw_m6 56 rfl) rfl
theorem q1339 : (Jvm.Cond.soleField "LifeKeysModel" "partings") ∈ lw_all := lw_g (lw_at lw_m6 57 rfl) rfl
theorem q1340 : (Jvm.Cond.lays "LifeKeysModel" "LifeKeysModel" "bench" "I") ∈ lw_all := lw_g (lw_at lw_m6 58 rfl) rfl
theorem q1341 : (Jvm.Cond.soleField "LifeKeysModel" "bench") ∈ lw_all := lw_g (lw_at lw_m6 59 rfl) rfl
theorem q1342 : (Jvm.Cond.laysFinal "LifeKeysModel" "LifeKeysModel" "hasBits" "[J") ∈ lw_all := lw_g (lw_at lw_m6 60 rfl) rfl
theorem q1343 : (Jvm.Cond.soleField "LifeKeysModel" "hasBits") ∈ lw_all := lw_g (lw_at lw_m6 61 rfl) rfl
theorem q1344 : (Jvm.Cond.laysFinal "LifeKeysModel" "LifeKeysModel" "ruleText" "[B") ∈ lw_all := lw_g (lw_at lw_m6 62 rfl) rfl
theorem q1345 : (Jvm.Cond.soleField "LifeKeysModel" "ruleText") ∈ lw_all := lw_g (lw_at lw_m6 63 rfl) rfl
theorem q1346 : (Jvm.Cond.laysFinal "LifeKeysModel" "LifeKeysModel" "ruleLong" "[I") ∈ lw_all := lw_g (lw_at lw_m6 64 rfl) rfl
theorem q1347 : (Jvm.Cond.soleField "LifeKeysModel" "ruleLong") ∈ lw_all := lw_g (lw_at lw_m6 65 rfl) rfl
theorem q1348 : (Jvm.Cond.laysFinal "LifeKeysModel" "LifeKeysModel" "deathHolde\x72" "[I") ∈ lw_all := lw_g (lw_at lw_m6 66 rfl) rfl
theorem q1349 : (Jvm.Cond.soleField "LifeKeysModel" "deathHolde\x72") ∈ lw_all := lw_g (lw_at lw_m6 67 rfl) rfl
theorem q1350 : (Jvm.Cond.laysFinal "LifeKeysModel" "LifeKeysModel" "deathRule" "[I") ∈ lw_all := lw_g (lw_at lw_m6 68 rfl) rfl
theorem q1351 : (Jvm.Cond.soleField "LifeKeysModel" "deathRule") ∈ lw_all := lw_g (lw_at lw_m6 69 rfl) rfl
theorem q1352 : (Jvm.Cond.laysFinal "LifeKeysModel" "LifeKeysModel" "deathTold" "[I") ∈ lw_all := lw_g (lw_at lw_m6 70 rfl) rfl
theorem q1353 : (Jvm.Cond.soleField "LifeKeysModel" "deathTold") ∈ lw_all := lw_g (lw_at lw_m6 71 rfl) rfl
theorem q1354 : (Jvm.Cond.laysFinal "LifeKeysModel" "LifeKeysModel" "digest" "[I") ∈ lw_all := lw_g (lw_at lw_m6 72 rfl) rfl
theorem q1355 : (Jvm.Cond.soleField "LifeKeysModel" "digest") ∈ lw_all := lw_g (lw_at lw_m6 73 rfl) rfl
theorem q1356 : (Jvm.Cond.laysFinal "LifeKeysModel" "LifeKeysModel" "sealedTo" "[I") ∈ lw_all := lw_g (lw_at lw_m6 74 rfl) rfl
theorem q1357 : (Jvm.Cond.soleField "LifeKeysModel" "sealedTo") ∈ lw_all := lw_g (lw_at lw_m6 75 rfl) rfl
theorem q1358 : (Jvm.Cond.laysFinal "LifeKeysModel" "LifeKeysModel" "askedOn" "[I") ∈ lw_all := lw_g (lw_at lw_m6 76 rfl) rfl
theorem q1359 : (Jvm.Cond.soleField "LifeKeysModel" "askedOn") ∈ lw_all := lw_g (lw_at lw_m6 77 rfl) rfl
theorem q1360 : (Jvm.Cond.laysFinal "LifeKeysModel" "LifeKeysModel" "sayHolde\x72" "[I") ∈ lw_all := lw_g (lw_at lw_m6 78 rfl) rfl
theorem q1361 : (Jvm.Cond.soleField "LifeKeysModel" "sayHolde\x72") ∈ lw_all := lw_g (lw_at lw_m6 79 rfl) rfl
theorem q1362 : (Jvm.Cond.laysFinal "LifeKeysModel" "LifeKeysModel" "sayOf" "[I") ∈ lw_all := lw_g (lw_at lw_m6 80 rfl) rfl
theorem q1363 : (Jvm.Cond.soleField "LifeKeysModel" "sayOf") ∈ lw_all := lw_g (lw_at lw_m6 81 rfl) rfl
theorem q1364 : (Jvm.Cond.laysFinal "LifeKeysModel" "LifeKeysModel" "sayDay" "[I") ∈ lw_all := lw_g (lw_at lw_m6 82 rfl) rfl
theorem q1365 : (Jvm.Cond.soleField "LifeKeysModel" "sayDay") ∈ lw_all := lw_g (lw_at lw_m6 83 rfl) rfl
theorem q1366 : (Jvm.Cond.laysFinal "LifeKeysModel" "LifeKeysModel" "isByRule" "[Z") ∈ lw_all := lw_g (lw_at lw_m6 84 rfl) rfl
theorem q1367 : (Jvm.Cond.soleField "LifeKeysModel" "isByRule") ∈ lw_all := lw_g (lw_at lw_m6 85 rfl) rfl
theorem q1368 : (Jvm.Cond.laysFinal "LifeKeysModel" "LifeKeysModel" "isOpened" "[Z") ∈ lw_all := lw_g (lw_at lw_m6 86 rfl) rfl
theorem q1369 : (Jvm.Cond.soleField "LifeKeysModel" "isOpened") ∈ lw_all := lw_g (lw_at lw_m6 87 rfl) rfl
theorem q1370 : (Jvm.Cond.laysFinal "LifeKeysModel" "LifeKeysModel" "isYes" "[Z") ∈ lw_all := lw_g (lw_at lw_m6 88 rfl) rfl
theorem q1371 : (Jvm.Cond.soleField "LifeKeysModel" "isYes") ∈ lw_all := lw_g (lw_at lw_m6 89 rfl) rfl
theorem q1372 : (Jvm.Cond.laysFinal "LifeKeysModel" "LifeKeysModel" "isOfDeath" "[Z") ∈ lw_all := lw_g (lw_at lw_m6 90 rfl) rfl
theorem q1373 : (Jvm.Cond.soleField "LifeKeysModel" "isOfDeath") ∈ lw_all := lw_g (lw_at lw_m6 91 rfl) rfl
theorem q1374 : (Jvm.Cond.lays "LifeKeysModel" "LifeKeysModel" "rules" "I") ∈ lw_all := lw_g (lw_at lw_m6 92 rfl) rfl
theorem q1375 : (Jvm.Cond.soleField "LifeKeysModel" "rules") ∈ lw_all := lw_g (lw_at lw_m6 93 rfl) rfl
theorem q1376 : (Jvm.Cond.lays "LifeKeysModel" "LifeKeysModel" "deaths" "I") ∈ lw_all := lw_g (lw_at lw_m6 94 rfl) rfl
theorem q1377 : (Jvm.Cond.soleField "LifeKeysModel" "deaths") ∈ lw_all := lw_g (lw_at lw_m6 95 rfl) rfl
theorem q1378 : (Jvm.Cond.lays "LifeKeysModel" "LifeKeysModel" "things" "I") ∈ lw_all := lw_g (lw_at lw_m6 96 rfl) rfl
theorem q1379 : (Jvm.Cond.soleField "LifeKeysModel" "things") ∈ lw_all := lw_g (lw_at lw_m6 97 rfl) rfl
theorem q1380 : (Jvm.Cond.lays "LifeKeysModel" "LifeKeysModel" "sayings" "I") ∈ lw_all := lw_g (lw_at lw_m6 98 rfl) rfl
theorem q1381 : (Jvm.Cond.soleField "LifeKeysModel" "sayings") ∈ lw_all := lw_g (lw_at lw_m6 99 rfl) rfl
theorem q1382 : (Jvm.Cond.lays "LifeKeysModel" "LifeKeysModel" "text" "[B") ∈ lw_all := lw_g (lw_at lw_m6 100 rfl) rfl
theorem q1383 : (Jvm.Cond.soleField "LifeKeysModel" "text") ∈ lw_all := lw_g (lw_at lw_m6 101 rfl) rfl
theorem q1384 : (Jvm.Cond.lays "LifeKeysModel" "LifeKeysModel" "begins" "I") ∈ lw_all := lw_g (lw_at lw_m6 102 rfl) rfl
theorem q1385 : (Jvm.Cond.soleField "LifeKeysModel" "begins") ∈ lw_all := lw_g (lw_at lw_m6 103 rfl) rfl
theorem q1386 : (Jvm.Cond.lays "LifeKeysModel" "LifeKeysModel" "ends" "I") ∈ lw_all := lw_g (lw_at lw_m6 104 rfl) rfl
theorem q1387 : (Jvm.Cond.soleField "LifeKeysModel" "ends") ∈ lw_all := lw_g (lw_at lw_m6 105 rfl) rfl
theorem q1388 : (Jvm.Cond.lays "LifeKeysModel" "LifeKeysModel" "at" "I") ∈ lw_all := lw_g (lw_at lw_m6 106 rfl) rfl
theorem q1389 : (Jvm.Cond.soleField "LifeKeysModel" "at") ∈ lw_all := lw_g (lw_at lw_m6 107 rfl) rfl
theorem q1390 : (Jvm.Cond.lays "LifeKeysModel" "LifeKeysModel" "fault" "I") ∈ lw_all := lw_g (lw_at lw_m6 108 rfl) rfl
theorem q1391 : (Jvm.Cond.soleField "LifeKeysModel" "fault") ∈ lw_all := lw_g (lw_at lw_m6 109 rfl) rfl
theorem q1392 : (Jvm.Cond.lays "LifeKeysModel" "LifeKeysModel" "deep" "I") ∈ lw_all := lw_g (lw_at lw_m6 110 rfl) rfl
theorem q1393 : (Jvm.Cond.soleField "LifeKeysModel" "deep") ∈ lw_all := lw_g (lw_at lw_m6 111 rfl) rfl
theorem q1394 : (Jvm.Cond.lays "LifeKeysModel" "LifeKeysModel" "of" "I") ∈ lw_all := lw_g (lw_at lw_m6 112 rfl) rfl
theorem q1395 : (Jvm.Cond.soleField "LifeKeysModel" "of") ∈ lw_all := lw_g (lw_at lw_m6 113 rfl) rfl
theorem q1396 : (Jvm.Cond.lays "LifeKeysModel" "LifeKeysModel" "day" "I") ∈ lw_all := lw_g (lw_at lw_m6 114 rfl) rfl
theorem q1397 : (Jvm.Cond.soleField "LifeKeysModel" "day") ∈ lw_all := lw_g (lw_at lw_m6 115 rfl) rfl
theorem q1398 : (Jvm.Cond.lays "LifeKeysModel" "LifeKeysModel" "seen" "I") ∈ lw_all := lw_g (lw_at lw_m6 116 rfl) rfl
theorem q1399 : (Jvm.Cond.soleField "LifeKeysModel" "seen") ∈ lw_all := lw_g (lw_at lw_m6 117 rfl) rfl
theorem q1400 : (Jvm.Cond.lays "LifeKeysModel" "LifeKeysModel" "first" "I") ∈ lw_all := lw_g (lw_at lw_m6 118 rfl) rfl
theorem q1401 : (Jvm.Cond.soleField "LifeKeysModel" "first") ∈ lw_all := lw_g (lw_at lw_m6 119 rfl) rfl
theorem q1402 : (Jvm.Cond.lays "LifeKeysModel" "LifeKeysModel" "ofDeath" "Z") ∈ lw_all := lw_g (lw_at lw_m6 120 rfl) rfl
theorem q1403 : (Jvm.Cond.soleField "LifeKeysModel" "ofDeath") ∈ lw_all := lw_g (lw_at lw_m6 121 rfl) rfl
theorem q1404 : (Jvm.Cond.laysFinal "LifeKeysModel" "LifeKeysModel" "isDead" "[Z") ∈ lw_all := lw_g (lw_at lw_m6 122 rfl) rfl
theorem q1405 : (Jvm.Cond.soleField "LifeKeysModel" "isDead") ∈ lw_all := lw_g (lw_at lw_m6 123 rfl) rfl
theorem q1406 : (Jvm.Cond.laysFinal "LifeKeysModel" "LifeKeysModel" "signR" "[I") ∈ lw_all := lw_g (lw_at lw_m6 124 rfl) rfl
theorem q1407 : (Jvm.Cond.soleField "LifeKeysModel" "signR") ∈ lw_all := lw_g (lw_at lw_m6 125 rfl) rfl
theorem q1408 : (Jvm.Cond.laysFinal "LifeKeysModel" "LifeKeysModel" "signS" "[I") ∈ lw_all := lw_g (lw_at lw_m6 126 rfl) rfl
theorem q1409 : (Jvm.Cond.soleField "LifeKeysModel" "signS") ∈ lw_all := lw_g (lw_at lw_m6 127 rfl) rfl
theorem q1410 : (Jvm.Cond.laysFinal "LifeKeysModel" "LifeKeysModel" "signKey" "[I") ∈ lw_all := lw_g (lw_at lw_m6 128 rfl) rfl
theorem q1411 : (Jvm.Cond.soleField "LifeKeysModel" "signKey") ∈ lw_all := lw_g (lw_at lw_m6 129 rfl) rfl
theorem q1412 : (Jvm.Cond.laysFinal "LifeKeysModel" "LifeKeysModel" "signThing" "[I") ∈ lw_all := lw_g (lw_at lw_m6 130 rfl) rfl
theorem q1413 : (Jvm.Cond.soleField "LifeKeysModel" "signThing") ∈ lw_all := lw_g (lw_at lw_m6 131 rfl) rfl
theorem q1414 : (Jvm.Cond.laysFinal "LifeKeysModel" "LifeKeysModel" "signDay" "[I") ∈ lw_all := lw_g (lw_at lw_m6 132 rfl) rfl
theorem q1415 : (Jvm.Cond.soleField "LifeKeysModel" "signDay") ∈ lw_all := lw_g (lw_at lw_m6 133 rfl) rfl
theorem q1416 : (Jvm.Cond.laysFinal "LifeKeysModel" "LifeKeysModel" "burnKey" "[I") ∈ lw_all := lw_g (lw_at lw_m6 134 rfl) rfl
theorem q1417 : (Jvm.Cond.soleField "LifeKeysModel" "burnKey") ∈ lw_all := lw_g (lw_at lw_m6 135 rfl) rfl
theorem q1418 : (Jvm.Cond.laysFinal "LifeKeysModel" "LifeKeysModel" "burnDay" "[I") ∈ lw_all := lw_g (lw_at lw_m6 136 rfl) rfl
theorem q1419 : (Jvm.Cond.soleField "LifeKeysModel" "burnDay") ∈ lw_all := lw_g (lw_at lw_m6 137 rfl) rfl
theorem q1420 : (Jvm.Cond.laysFinal "LifeKeysModel" "LifeKeysModel" "burnTold" "[I") ∈ lw_all := lw_g (lw_at lw_m6 138 rfl) rfl
theorem q1421 : (Jvm.Cond.soleField "LifeKeysModel" "burnTold") ∈ lw_all := lw_g (lw_at lw_m6 139 rfl) rfl
theorem q1422 : (Jvm.Cond.laysFinal "LifeKeysModel" "LifeKeysModel" "lentKey" "[I") ∈ lw_all := lw_g (lw_at lw_m6 140 rfl) rfl
theorem q1423 : (Jvm.Cond.soleField "LifeKeysModel" "lentKey") ∈ lw_all := lw_g (lw_at lw_m6 141 rfl) rfl
theorem q1424 : (Jvm.Cond.laysFinal "LifeKeysModel" "LifeKeysModel" "lentTo" "[I") ∈ lw_all := lw_g (lw_at lw_m6 142 rfl) rfl
theorem q1425 : (Jvm.Cond.soleField "LifeKeysModel" "lentTo") ∈ lw_all := lw_g (lw_at lw_m6 143 rfl) rfl
theorem q1426 : (Jvm.Cond.laysFinal "LifeKeysModel" "LifeKeysModel" "lentUses" "[I") ∈ lw_all := lw_g (lw_at lw_m6 144 rfl) rfl
theorem q1427 : (Jvm.Cond.soleField "LifeKeysModel" "lentUses") ∈ lw_all := lw_g (lw_at lw_m6 145 rfl) rfl
theorem q1428 : (Jvm.Cond.laysFinal "LifeKeysModel" "LifeKeysModel" "lentThing" "[I") ∈ lw_all := lw_g (lw_at lw_m6 146 rfl) rfl
theorem q1429 : (Jvm.Cond.soleField "LifeKeysModel" "lentThing") ∈ lw_all := lw_g (lw_at lw_m6 147 rfl) rfl
theorem q1430 : (Jvm.Cond.laysFinal "LifeKeysModel" "LifeKeysModel" "isBack" "[Z") ∈ lw_all := lw_g (lw_at lw_m6 148 rfl) rfl
theorem q1431 : (Jvm.Cond.soleField "LifeKeysModel" "isBack") ∈ lw_all := lw_g (lw_at lw_m6 149 rfl) rfl
theorem q1432 : (Jvm.Cond.lays "LifeKeysModel" "LifeKeysModel" "signatures" "I") ∈ lw_all := lw_g (lw_at lw_m6 150 rfl) rfl
theorem q1433 : (Jvm.Cond.soleField "LifeKeysModel" "signatures") ∈ lw_all := lw_g (lw_at lw_m6 151 rfl) rfl
theorem q1434 : (Jvm.Cond.lays "LifeKeysModel" "LifeKeysModel" "burns" "I") ∈ lw_all := lw_g (lw_at lw_m6 152 rfl) rfl
theorem q1435 : (Jvm.Cond.soleField "LifeKeysModel" "burns") ∈ lw_all := lw_g (lw_at lw_m6 153 rfl) rfl
theorem q1436 : (Jvm.Cond.lays "LifeKeysModel" "LifeKeysModel" "lents" "I") ∈ lw_all := lw_g (lw_at lw_m6 154 rfl) rfl
theorem q1437 : (Jvm.Cond.soleField "LifeKeysModel" "lents") ∈ lw_all := lw_g (lw_at lw_m6 155 rfl) rfl
theorem q1438 : (Jvm.Cond.laysFinal "LifeKeysModel" "LifeKeysModel" "fallSet" "[I") ∈ lw_all := lw_g (lw_at lw_m6 156 rfl) rfl
theorem q1439 : (Jvm.Cond.soleField "LifeKeysModel" "fallSet") ∈ lw_all := lw_g (lw_at lw_m6 157 rfl) rfl
theorem q1440 : (Jvm.Cond.laysFinal "LifeKeysModel" "LifeKeysModel" "orde\x72" "[I") ∈ lw_all := lw_g (lw_at lw_m6 158 rfl) rfl
theorem q1441 : (Jvm.Cond.soleField "LifeKeysModel" "orde\x72") ∈ lw_all := lw_g (lw_at lw_m6 159 rfl) rfl
theorem q1442 : (Jvm.Cond.lays "LifeKeysModel" "LifeKeysModel" "falls" "I") ∈ lw_all := lw_g (lw_at lw_m6 160 rfl) rfl
theorem q1443 : (Jvm.Cond.soleField "LifeKeysModel" "falls") ∈ lw_all := lw_g (lw_at lw_m6 161 rfl) rfl
theorem q1444 : (Jvm.Cond.lays "LifeKeysModel" "LifeKeysModel" "bestSet" "I") ∈ lw_all := lw_g (lw_at lw_m6 162 rfl) rfl
theorem q1445 : (Jvm.Cond.soleField "LifeKeysModel" "bestSet") ∈ lw_all := lw_g (lw_at lw_m6 163 rfl) rfl
theorem q1446 : (Jvm.Cond.lays "LifeKeysModel" "LifeKeysModel" "wayMany" "I") ∈ lw_all := lw_g (lw_at lw_m6 164 rfl) rfl
theorem q1447 : (Jvm.Cond.soleField "LifeKeysModel" "wayMany") ∈ lw_all := lw_g (lw_at lw_m6 165 rfl) rfl
theorem q1448 : (Jvm.Cond.superclass "LifeKeysModel" "java/lang/Object") ∈ lw_all := lw_g (lw_at lw_m6 166 rfl) rfl
theorem q1451 : (Jvm.Cond.instanceMethod ({ cls := "LifeKeysModel", name := "thrown", desc := "()I" } : Jvm.MethodName)) ∈ lw_all := lw_g (lw_at lw_m6 169 rfl) rfl
theorem q1452 : (Jvm.Cond.selects "LifeKeysModel" ({ cls := "LifeKeysModel", name := "thrown", desc := "()I" } : Jvm.MethodName) ({ cls := "LifeKeysModel", name := "thrown", desc := "()I" } : Jvm.MethodName)) ∈ lw_all := lw_g (lw_at lw_m6 170 rfl) rfl
theorem q1453 : (Jvm.Cond.code ({ cls := "LifeKeysModel", name := "thrown", desc := "()I" } : Jvm.MethodName) prog_22_method_2_code (1 : Nat) (Option.some Jvm.ClassFile.FieldType.int)) ∈ lw_all := lw_g (lw_at lw_m6 171 rfl) rfl
theorem q1455 : (Jvm.Cond.instanceMethod ({ cls := "LifeKeysModel", name := "days", desc := "(I)I" } : Jvm.MethodName)) ∈ lw_all := lw_g (lw_at lw_m6 173 rfl) rfl
theorem q1456 : (Jvm.Cond.selects "LifeKeysModel" ({ cls := "LifeKeysModel", name := "days", desc := "(I)I" } : Jvm.MethodName) ({ cls := "LifeKeysModel", name := "days", desc := "(I)I" } : Jvm.MethodName)) ∈ lw_all := lw_g (lw_at lw_m6 174 rfl) rfl
theorem q1457 : (Jvm.Cond.code ({ cls := "LifeKeysModel", name := "days", desc := "(I)I" } : Jvm.MethodName) prog_22_method_6_code (2 : Nat) (Option.some Jvm.ClassFile.FieldType.int)) ∈ lw_all := lw_g (lw_at lw_m6 175 rfl) rfl
theorem q1458 : (Jvm.Cond.methodLink "LifeKeysModel" (188 : Nat) ({ cls := "LifeKeysModel", name := "isIn", desc := "(III)Z" } : Jvm.MethodName)) ∈ lw_all := lw_g (lw_at lw_m6 176 rfl) rfl
theorem q1459 : (Jvm.Cond.static ({ cls := "LifeKeysModel", name := "isIn", desc := "(III)Z" } : Jvm.MethodName)) ∈ lw_all := lw_g (lw_at lw_m6 177 rfl) rfl
theorem q1460 : (Jvm.Cond.code ({ cls := "LifeKeysModel", name := "isIn", desc := "(III)Z" } : Jvm.MethodName) prog_22_method_3_code (3 : Nat) (Option.some Jvm.ClassFile.FieldType.boolean)) ∈ lw_all := lw_g (lw_at lw_m6 178 rfl) rfl
theorem q1462 : (Jvm.Cond.instanceMethod ({ cls := "LifeKeysModel", name := "holde\x72", desc := "()I" } : Jvm.MethodName)) ∈ lw_all := lw_g (lw_at lw_m6 180 rfl) rfl
theorem q1463 : (Jvm.Cond.selects "LifeKeysModel" ({ cls := "LifeKeysModel", name := "holde\x72", desc := "()I" } : Jvm.MethodName) ({ cls := "LifeKeysModel", name := "holde\x72", desc := "()I" } : Jvm.MethodName)) ∈ lw_all := lw_g (lw_at lw_m6 181 rfl) rfl
theorem q1464 : (Jvm.Cond.code ({ cls := "LifeKeysModel", name := "holde\x72", desc := "()I" } : Jvm.MethodName) prog_22_method_13_code (1 : Nat) (Option.some Jvm.ClassFile.FieldType.int)) ∈ lw_all := lw_g (lw_at lw_m6 182 rfl) rfl
theorem q1466 : (Jvm.Cond.instanceMethod ({ cls := "LifeKeysModel", name := "key", desc := "(IZ)I" } : Jvm.MethodName)) ∈ lw_all := lw_g (lw_at lw_m6 184 rfl) rfl
theorem q1467 : (Jvm.Cond.selects "LifeKeysModel" ({ cls := "LifeKeysModel", name := "key", desc := "(IZ)I" } : Jvm.MethodName) ({ cls := "LifeKeysModel", name := "key", desc := "(IZ)I" } : Jvm.MethodName)) ∈ lw_all := lw_g (lw_at lw_m6 185 rfl) rfl
theorem q1468 : (Jvm.Cond.code ({ cls := "LifeKeysModel", name := "key", desc := "(IZ)I" } : Jvm.MethodName) prog_22_method_15_code (3 : Nat) (Option.some Jvm.ClassFile.FieldType.int)) ∈ lw_all := lw_g (lw_at lw_m6 186 rfl) rfl
theorem q1469 : (Jvm.Cond.methodLink "LifeKeysModel" (202 : Nat) ({ cls := "LifeKeysModel", name := "add", desc := "(III)I" } : Jvm.MethodName)) ∈ lw_all := lw_g (lw_at lw_m6 187 rfl) rfl
theorem q1470 : (Jvm.Cond.privateMethod ({ cls := "LifeKeysModel", name := "add", desc := "(III)I" } : Jvm.MethodName)) ∈ lw_tbl := lw_at lw_m6 188 rfl
theorem q1471 : (Jvm.Cond.instanceMethod ({ cls := "LifeKeysModel", name := "add", desc := "(III)I" } : Jvm.MethodName)) ∈ lw_all := lw_g (lw_at lw_m6 189 rfl) rfl
theorem q1472 : (Jvm.Cond.code ({ cls := "LifeKeysModel", name := "add", desc := "(III)I" } : Jvm.MethodName) prog_22_method_14_code (4 : Nat) (Option.some Jvm.ClassFile.FieldType.int)) ∈ lw_all := lw_g (lw_at lw_m6 190 rfl) rfl
theorem q1474 : (Jvm.Cond.instanceMethod ({ cls := "LifeKeysModel", name := "feed", desc := "(IIIII)I" } : Jvm.MethodName)) ∈ lw_all := lw_g (lw_at lw_m6 192 rfl) rfl
theorem q1475 : (Jvm.Cond.selects "LifeKeysModel" ({ cls := "LifeKeysModel", name := "feed", desc := "(IIIII)I" } : Jvm.MethodName) ({ cls := "LifeKeysModel", name := "feed", desc := "(IIIII)I" } : Jvm.MethodName)) ∈ lw_all := lw_g (lw_at lw_m6 193 rfl) rfl
theorem q1476 : (Jvm.Cond.code ({ cls := "LifeKeysModel", name := "feed", desc := "(IIIII)I" } : Jvm.MethodName) prog_22_method_18_code (6 : Nat) (Option.some Jvm.ClassFile.FieldType.int)) ∈ lw_all := lw_g (lw_at lw_m6 194 rfl) rfl
theorem q1477 : (Jvm.Cond.methodLink "LifeKeysModel" (208 : Nat) ({ cls := "LifeKeysModel", name := "bytesIn", desc := "(I)I" } : Jvm.MethodName)) ∈ lw_all := lw_g (lw_at lw_m6 195 rfl) rfl
theorem q1478 : (Jvm.Cond.static ({ cls := "LifeKeysModel", name := "bytesIn", desc := "(I)I" } : Jvm.MethodName)) ∈ lw_all := lw_g (lw_at lw_m6 196 rfl) rfl
theorem q1479 : (Jvm.Cond.code ({ cls := "LifeKeysModel", name := "bytesIn", desc := "(I)I" } : Jvm.MethodName) prog_22_method_16_code (3 : Nat) (Option.some Jvm.ClassFile.FieldType.int)) ∈ lw_all := lw_g (lw_at lw_m6 197 rfl) rfl
theorem q1480 : (Jvm.Cond.methodLink "LifeKeysModel" (212 : Nat) ({ cls := "LifeKeysModel", name := "put", desc := "(I)V" } : Jvm.MethodName)) ∈ lw_all := lw_g (lw_at lw_m6 198 rfl) rfl
theorem q1481 : (Jvm.Cond.privateMethod ({ cls := "LifeKeysModel", name := "put", desc := "(I)V" } : Jvm.MethodName)) ∈ lw_tbl := lw_at lw_m6 199 rfl
theorem q1482 : (Jvm.Cond.instanceMethod ({ cls := "LifeKeysModel", name := "put", desc := "(I)V" } : Jvm.MethodName)) ∈ lw_all := lw_g (lw_at lw_m6 200 rfl) rfl
theorem q1483 : (Jvm.Cond.code ({ cls := "LifeKeysModel", name := "put", desc := "(I)V" } : Jvm.MethodName) prog_22_method_17_code (3 : Nat) (Option.none : Option Jvm.ClassFile.FieldType)) ∈ lw_all := lw_g (lw_at lw_m6 201 rfl) rfl
theorem q1485 : (Jvm.Cond.instanceMethod ({ cls := "LifeKeysModel", name := "end", desc := "(I)Z" } : Jvm.MethodName)) ∈ lw_all := lw_g (lw_at lw_m6 203 rfl) rfl
theorem q1486 : (Jvm.Cond.selects "LifeKeysModel" ({ cls := "LifeKeysModel", name := "end", desc := "(I)Z" } : Jvm.MethodName) ({ cls := "LifeKeysModel", name := "end", desc := "(I)Z" } : Jvm.MethodName)) ∈ lw_all := lw_g (lw_at lw_m6 204 rfl) rfl
theorem q1487 : (Jvm.Cond.code ({ cls := "LifeKeysModel", name := "end", desc := "(I)Z" } : Jvm.MethodName) prog_22_method_19_code (2 : Nat) (Option.some Jvm.ClassFile.FieldType.boolean)) ∈ lw_all := lw_g (lw_at lw_m6 205 rfl) rfl
theorem q1489 : (Jvm.Cond.instanceMethod ({ cls := "LifeKeysModel", name := "make", desc := "(I)I" } : Jvm.MethodName)) ∈ lw_all := lw_g (lw_at lw_m6 207 rfl) rfl
theorem q1490 : (Jvm.Cond.selects "LifeKeysModel" ({ cls := "LifeKeysModel", name := "make", desc := "(I)I" } : Jvm.MethodName) ({ cls := "LifeKeysModel", name := "make", desc := "(I)I" } : Jvm.MethodName)) ∈ lw_all := lw_g (lw_at lw_m6 208 rfl) rfl
theorem q1491 : (Jvm.Cond.code ({ cls := "LifeKeysModel", name := "make", desc := "(I)I" } : Jvm.MethodName) prog_22_method_20_code (4 : Nat) (Option.some Jvm.ClassFile.FieldType.int)) ∈ lw_all := lw_g (lw_at lw_m6 209 rfl) rfl
theorem q1492 : (Jvm.Cond.methodLink "LifeKeysModel" (216 : Nat) ({ cls := "LifeKeysModel", name := "isKey", desc := "(I)Z" } : Jvm.MethodName)) ∈ lw_all := lw_g (lw_at lw_m6 210 rfl) rfl
theorem q1493 : (Jvm.Cond.privateMethod ({ cls := "LifeKeysModel", name := "isKey", desc := "(I)Z" } : Jvm.MethodName)) ∈ lw_tbl := lw_at lw_m6 211 rfl
theorem q1494 : (Jvm.Cond.instanceMethod ({ cls := "LifeKeysModel", name := "isKey", desc := "(I)Z" } : Jvm.MethodName)) ∈ lw_all := lw_g (lw_at lw_m6 212 rfl) rfl
theorem q1495 : (Jvm.Cond.code ({ cls := "LifeKeysModel", name := "isKey", desc := "(I)Z" } : Jvm.MethodName) prog_22_method_11_code (2 : Nat) (Option.some Jvm.ClassFile.FieldType.boolean)) ∈ lw_all := lw_g (lw_at lw_m6 213 rfl) rfl
theorem q1497 : (Jvm.Cond.instanceMethod ({ cls := "LifeKeysModel", name := "open", desc := "(I)I" } : Jvm.MethodName)) ∈ lw_all := lw_g (lw_at lw_m6 215 rfl) rfl
theorem q1498 : (Jvm.Cond.selects "LifeKeysModel" ({ cls := "LifeKeysModel", name := "open", desc := "(I)I" } : Jvm.MethodName) ({ cls := "LifeKeysModel", name := "open", desc := "(I)I" } : Jvm.MethodName)) ∈ lw_all := lw_g (lw_at lw_m6 216 rfl) rfl
theorem q1499 : (Jvm.Cond.code ({ cls := "LifeKeysModel", name := "open", desc := "(I)I" } : Jvm.MethodName) prog_22_method_21_code (2 : Nat) (Option.some Jvm.ClassFile.FieldType.int)) ∈ lw_all := lw_g (lw_at lw_m6 217 rfl) rfl
theorem q1500 : (Jvm.Cond.methodLink "LifeKeysModel" (220 : Nat) ({ cls := "LifeKeysModel", name := "fou\x72", desc := "(I)I" } : Jvm.MethodName)) ∈ lw_all := lw_g (lw_at lw_m6 218 rfl) rfl
theorem q1501 : (Jvm.Cond.static ({ cls := "LifeKeysModel", name := "fou\x72", desc := "(I)I" } : Jvm.MethodName)) ∈ lw_all := lw_g (lw_at lw_m6 219 rfl) rfl
theorem q1502 : (Jvm.Cond.code ({ cls := "LifeKeysModel", name := "fou\x72", desc := "(I)I" } : Jvm.MethodName) prog_22_method_8_code (1 : Nat) (Option.some Jvm.ClassFile.FieldType.int)) ∈ lw_all := lw_g (lw_at lw_m6 220 rfl) rfl
theorem q1503 : (Jvm.Cond.methodLink "LifeKeysModel" (192 : Nat) ({ cls := "LifeKeysModel", name := "powe\x72", desc := "(III)I" } : Jvm.MethodName)) ∈ lw_all := lw_g (lw_at lw_m6 221 rfl) rfl
theorem q1504 : (Jvm.Cond.static ({ cls := "LifeKeysModel", name := "powe\x72", desc := "(III)I" } : Jvm.MethodName)) ∈ lw_all := lw_g (lw_at lw_m6 222 rfl) rfl
theorem q1505 : (Jvm.Cond.code ({ cls := "LifeKeysModel", name := "powe\x72", desc := "(III)I" } : Jvm.MethodName) prog_22_method_7_code (5 : Nat) (Option.some Jvm.ClassFile.FieldType.int)) ∈ lw_all := lw_g (lw_at lw_m6 223 rfl) rfl
theorem q1507 : (Jvm.Cond.instanceMethod ({ cls := "LifeKeysModel", name := "give", desc := "(II)Z" } : Jvm.MethodName)) ∈ lw_all := lw_g (lw_at lw_m6 225 rfl) rfl
theorem q1508 : (Jvm.Cond.selects "LifeKeysModel" ({ cls := "LifeKeysModel", name := "give", desc := "(II)Z" } : Jvm.MethodName) ({ cls := "LifeKeysModel", name := "give", desc := "(II)Z" } : Jvm.MethodName)) ∈ lw_all := lw_g (lw_at lw_m6 226 rfl) rfl
theorem q1509 : (Jvm.Cond.code ({ cls := "LifeKeysModel", name := "give", desc := "(II)Z" } : Jvm.MethodName) prog_22_method_24_code (3 : Nat) (Option.some Jvm.ClassFile.FieldType.boolean)) ∈ lw_all := lw_g (lw_at lw_m6 227 rfl) rfl
theorem q1510 : (Jvm.Cond.methodLink "LifeKeysModel" (232 : Nat) ({ cls := "LifeKeysModel", name := "hands", desc := "(IIZ)Z" } : Jvm.MethodName)) ∈ lw_all := lw_g (lw_at lw_m6 228 rfl) rfl
theorem q1511 : (Jvm.Cond.privateMethod ({ cls := "LifeKeysModel", name := "hands", desc := "(IIZ)Z" } : Jvm.MethodName)) ∈ lw_tbl := lw_at lw_m6 229 rfl
theorem q1512 : (Jvm.Cond.instanceMethod ({ cls := "LifeKeysModel", name := "hands", desc := "(IIZ)Z" } : Jvm.MethodName)) ∈ lw_all := lw_g (lw_at lw_m6 230 rfl) rfl
theorem q1513 : (Jvm.Cond.code ({ cls := "LifeKeysModel", name := "hands", desc := "(IIZ)Z" } : Jvm.MethodName) prog_22_method_23_code (4 : Nat) (Option.some Jvm.ClassFile.FieldType.boolean)) ∈ lw_all := lw_g (lw_at lw_m6 231 rfl) rfl
theorem q1514 : (Jvm.Cond.methodLink "LifeKeysModel" (226 : Nat) ({ cls := "LifeKeysModel", name := "isHolde\x72", desc := "(I)Z" } : Jvm.MethodName)) ∈ lw_all := lw_g (lw_at lw_m6 232 rfl) rfl
theorem q1515 : (Jvm.Cond.privateMethod ({ cls := "LifeKeysModel", name := "isHolde\x72", desc := "(I)Z" } : Jvm.MethodName)) ∈ lw_tbl := lw_at lw_m6 233 rfl
theorem q1516 : (Jvm.Cond.instanceMethod ({ cls := "LifeKeysModel", name := "isHolde\x72", desc := "(I)Z" } : Jvm.MethodName)) ∈ lw_all := lw_g (lw_at lw_m6 234 rfl) rfl
theorem q1517 : (Jvm.Cond.code ({ cls := "LifeKeysModel", name := "isHolde\x72", desc := "(I)Z" } : Jvm.MethodName) prog_22_method_10_code (2 : Nat) (Option.some Jvm.ClassFile.FieldType.boolean)) ∈ lw_all := lw_g (lw_at lw_m6 235 rfl) rfl
theorem q1518 : (Jvm.Cond.methodLink "LifeKeysModel" (229 : Nat) ({ cls := "LifeKeysModel", name := "has", desc := "(III)Z" } : Jvm.MethodName)) ∈ lw_all := lw_g (lw_at lw_m6 236 rfl) rfl
theorem q1519 : (Jvm.Cond.privateMethod ({ cls := "LifeKeysModel", name := "has", desc := "(III)Z" } : Jvm.MethodName)) ∈ lw_tbl := lw_at lw_m6 237 rfl
theorem q1520 : (Jvm.Cond.instanceMethod ({ cls := "LifeKeysModel", name := "has", desc := "(III)Z" } : Jvm.MethodName)) ∈ lw_all := lw_g (lw_at lw_m6 238 rfl) rfl
theorem q1521 : (Jvm.Cond.code ({ cls := "LifeKeysModel", name := "has", desc := "(III)Z" } : Jvm.MethodName) prog_22_method_22_code (6 : Nat) (Option.some Jvm.ClassFile.FieldType.boolean)) ∈ lw_all := lw_g (lw_at lw_m6 239 rfl) rfl
theorem q1523 : (Jvm.Cond.instanceMethod ({ cls := "LifeKeysModel", name := "take", desc := "(II)Z" } : Jvm.MethodName)) ∈ lw_all := lw_g (lw_at lw_m7 1 rfl) rfl
theorem q1524 : (Jvm.Cond.selects "LifeKeysModel" ({ cls := "LifeKeysModel", name := "take", desc := "(II)Z" } : Jvm.MethodName) ({ cls := "LifeKeysModel", name := "take", desc := "(II)Z" } : Jvm.MethodName)) ∈ lw_all := lw_g (lw_at lw_m7 2 rfl) rfl
theorem q1525 : (Jvm.Cond.code ({ cls := "LifeKeysModel", name := "take", desc := "(II)Z" } : Jvm.MethodName) prog_22_method_25_code (3 : Nat) (Option.some Jvm.ClassFile.FieldType.boolean)) ∈ lw_all := lw_g (lw_at lw_m7 3 rfl) rfl
theorem q1527 : (Jvm.Cond.instanceMethod ({ cls := "LifeKeysModel", name := "wrap", desc := "(II)I" } : Jvm.MethodName)) ∈ lw_all := lw_g (lw_at lw_m7 5 rfl) rfl
theorem q1528 : (Jvm.Cond.selects "LifeKeysModel" ({ cls := "LifeKeysModel", name := "wrap", desc := "(II)I" } : Jvm.MethodName) ({ cls := "LifeKeysModel", name := "wrap", desc := "(II)I" } : Jvm.MethodName)) ∈ lw_all := lw_g (lw_at lw_m7 6 rfl) rfl
theorem q1529 : (Jvm.Cond.code ({ cls := "LifeKeysModel", name := "wrap", desc := "(II)I" } : Jvm.MethodName) prog_22_method_26_code (3 : Nat) (Option.some Jvm.ClassFile.FieldType.int)) ∈ lw_all := lw_g (lw_at lw_m7 7 rfl) rfl
theorem q1531 : (Jvm.Cond.instanceMethod ({ cls := "LifeKeysModel", name := "cut", desc := "(I)Z" } : Jvm.MethodName)) ∈ lw_all := lw_g (lw_at lw_m7 9 rfl) rfl
theorem q1532 : (Jvm.Cond.selects "LifeKeysModel" ({ cls := "LifeKeysModel", name := "cut", desc := "(I)Z" } : Jvm.MethodName) ({ cls := "LifeKeysModel", name := "cut", desc := "(I)Z" } : Jvm.MethodName)) ∈ lw_all := lw_g (lw_at lw_m7 10 rfl) rfl
theorem q1533 : (Jvm.Cond.code ({ cls := "LifeKeysModel", name := "cut", desc := "(I)Z" } : Jvm.MethodName) prog_22_method_27_code (2 : Nat) (Option.some Jvm.ClassFile.FieldType.boolean)) ∈ lw_all := lw_g (lw_at lw_m7 11 rfl) rfl
theorem q1535 : (Jvm.Cond.instanceMethod ({ cls := "LifeKeysModel", name := "part", desc := "(IIIJ)I" } : Jvm.MethodName)) ∈ lw_all := lw_g (lw_at lw_m7 13 rfl) rfl
theorem q1536 : (Jvm.Cond.selects "LifeKeysModel" ({ cls := "LifeKeysModel", name := "part", desc := "(IIIJ)I" } : Jvm.MethodName) ({ cls := "LifeKeysModel", name := "part", desc := "(IIIJ)I" } : Jvm.MethodName)) ∈ lw_all := lw_g (lw_at lw_m7 14 rfl) rfl
theorem q1537 : (Jvm.Cond.code ({ cls := "LifeKeysModel", name := "part", desc := "(IIIJ)I" } : Jvm.MethodName) prog_22_method_31_code (6 : Nat) (Option.some Jvm.ClassFile.FieldType.int)) ∈ lw_all := lw_g (lw_at lw_m7 15 rfl) rfl
theorem q1538 : (Jvm.Cond.methodLink "LifeKeysModel" (254 : Nat) ({ cls := "LifeKeysModel", name := "areHolders", desc := "(II)Z" } : Jvm.MethodName)) ∈ lw_all := lw_g (lw_at lw_m7 16 rfl) rfl
theorem q1539 : (Jvm.Cond.privateMethod ({ cls := "LifeKeysModel", name := "areHolders", desc := "(II)Z" } : Jvm.MethodName)) ∈ lw_tbl := lw_at lw_m7 17 rfl
theorem q1540 : (Jvm.Cond.instanceMethod ({ cls := "LifeKeysModel", name := "areHolders", desc := "(II)Z" } : Jvm.MethodName)) ∈ lw_all := lw_g (lw_at lw_m7 18 rfl) rfl
theorem q1541 : (Jvm.Cond.code ({ cls := "LifeKeysModel", name := "areHolders", desc := "(II)Z" } : Jvm.MethodName) prog_22_method_12_code (3 : Nat) (Option.some Jvm.ClassFile.FieldType.boolean)) ∈ lw_all := lw_g (lw_at lw_m7 19 rfl) rfl
theorem q1542 : (Jvm.Cond.methodLink "LifeKeysModel" (258 : Nat) ({ cls := "java/lang/Intege\x72", name := "bitCount", desc := "(I)I" } : Jvm.MethodName)) ∈ lw_all := lw_g (lw_at lw_m7 20 rfl) rfl
theorem q1543 : (Jvm.Cond.methodLink "LifeKeysModel" (263 : Nat) ({ cls := "LifeKeysModel", name := "parted", desc := "(IIIJ)I" } : Jvm.MethodName)) ∈ lw_all := lw_g (lw_at lw_m7 21 rfl) rfl
theorem q1544 : (Jvm.Cond.privateMethod ({ cls := "LifeKeysModel", name := "parted", desc := "(IIIJ)I" } : Jvm.MethodName)) ∈ lw_tbl := lw_at lw_m7 22 rfl
theorem q1545 : (Jvm.Cond.instanceMethod ({ cls := "LifeKeysModel", name := "parted", desc := "(IIIJ)I" } : Jvm.MethodName)) ∈ lw_all := lw_g (lw_at lw_m7 23 rfl) rfl
theorem q1546 : (Jvm.Cond.code ({ cls := "LifeKeysModel", name := "parted", desc := "(IIIJ)I" } : Jvm.MethodName) prog_22_method_30_code (10 : Nat) (Option.some Jvm.ClassFile.FieldType.int)) ∈ lw_all := lw_g (lw_at lw_m7 24 rfl) rfl
theorem q1547 : (Jvm.Cond.methodLink "LifeKeysModel" (246 : Nat) ({ cls := "LifeKeysModel", name := "next", desc := "(J)J" } : Jvm.MethodName)) ∈ lw_all := lw_g (lw_at lw_m7 25 rfl) rfl
theorem q1548 : (Jvm.Cond.static ({ cls := "LifeKeysModel", name := "next", desc := "(J)J" } : Jvm.MethodName)) ∈ lw_all := lw_g (lw_at lw_m7 26 rfl) rfl
theorem q1549 : (Jvm.Cond.code ({ cls := "LifeKeysModel", name := "next", desc := "(J)J" } : Jvm.MethodName) prog_22_method_28_code (2 : Nat) (Option.some Jvm.ClassFile.FieldType.long)) ∈ lw_all := lw_g (lw_at lw_m7 27 rfl) rfl
theorem q1550 : (Jvm.Cond.constantLong "LifeKeysModel" (239 : Nat) (6364136223846793005 : Int64)) ∈ lw_all := lw_g (lw_at lw_m7 28 rfl) rfl
theorem q1551 : (Jvm.Cond.constantLong "LifeKeysModel" (241 : Nat) (1442695040888963407 : Int64)) ∈ lw_all := lw_g (lw_at lw_m7 29 rfl) rfl
theorem q1552 : (Jvm.Cond.methodLink "LifeKeysModel" (250 : Nat) ({ cls := "LifeKeysModel", name := "drawn", desc := "(JI)I" } : Jvm.MethodName)) ∈ lw_all := lw_g (lw_at lw_m7 30 rfl) rfl
theorem q1553 : (Jvm.Cond.static ({ cls := "LifeKeysModel", name := "drawn", desc := "(JI)I" } : Jvm.MethodName)) ∈ lw_all := lw_g (lw_at lw_m7 31 rfl) rfl
theorem q1554 : (Jvm.Cond.code ({ cls := "LifeKeysModel", name := "drawn", desc := "(JI)I" } : Jvm.MethodName) prog_22_method_29_code (3 : Nat) (Option.some Jvm.ClassFile.FieldType.int)) ∈ lw_all := lw_g (lw_at lw_m7 32 rfl) rfl
theorem q1556 : (Jvm.Cond.instanceMethod ({ cls := "LifeKeysModel", name := "again", desc := "(IJ)I" } : Jvm.MethodName)) ∈ lw_all := lw_g (lw_at lw_m7 34 rfl) rfl
theorem q1557 : (Jvm.Cond.selects "LifeKeysModel" ({ cls := "LifeKeysModel", name := "again", desc := "(IJ)I" } : Jvm.MethodName) ({ cls := "LifeKeysModel", name := "again", desc := "(IJ)I" } : Jvm.MethodName)) ∈ lw_all := lw_g (lw_at lw_m7 35 rfl) rfl
theorem q1558 : (Jvm.Cond.code ({ cls := "LifeKeysModel", name := "again", desc := "(IJ)I" } : Jvm.MethodName) prog_22_method_33_code (4 : Nat) (Option.some Jvm.ClassFile.FieldType.int)) ∈ lw_all := lw_g (lw_at lw_m7 36 rfl) rfl
theorem q1559 : (Jvm.Cond.methodLink "LifeKeysModel" (267 : Nat) ({ cls := "LifeKeysModel", name := "isParting", desc := "(I)Z" } : Jvm.MethodName)) ∈ lw_all := lw_g (lw_at lw_m7 37 rfl) rfl
theorem q1560 : (Jvm.Cond.privateMethod ({ cls := "LifeKeysModel", name := "isParting", desc := "(I)Z" } : Jvm.MethodName)) ∈ lw_tbl := lw_at lw_m7 38 rfl
theorem q1561 : (Jvm.Cond.instanceMethod ({ cls := "LifeKeysModel", name := "isParting", desc := "(I)Z" } : Jvm.MethodName)) ∈ lw_all := lw_g (lw_at lw_m7 39 rfl) rfl
theorem q1562 : (Jvm.Cond.code ({ cls := "LifeKeysModel", name := "isParting", desc := "(I)Z" } : Jvm.MethodName) prog_22_method_32_code (2 : Nat) (Option.some Jvm.ClassFile.FieldType.boolean)) ∈ lw_all := lw_g (lw_at lw_m7 40 rfl) rfl
theorem q1564 : (Jvm.Cond.instanceMethod ({ cls := "LifeKeysModel", name := "piece", desc := "(II)I" } : Jvm.MethodName)) ∈ lw_all := lw_g (lw_at lw_m7 42 rfl) rfl
theorem q1565 : (Jvm.Cond.selects "LifeKeysModel" ({ cls := "LifeKeysModel", name := "piece", desc := "(II)I" } : Jvm.MethodName) ({ cls := "LifeKeysModel", name := "piece", desc := "(II)I" } : Jvm.MethodName)) ∈ lw_all := lw_g (lw_at lw_m7 43 rfl) rfl
theorem q1566 : (Jvm.Cond.code ({ cls := "LifeKeysModel", name := "piece", desc := "(II)I" } : Jvm.MethodName) prog_22_method_36_code (3 : Nat) (Option.some Jvm.ClassFile.FieldType.int)) ∈ lw_all := lw_g (lw_at lw_m7 44 rfl) rfl
theorem q1567 : (Jvm.Cond.methodLink "LifeKeysModel" (270 : Nat) ({ cls := "LifeKeysModel", name := "isAmong", desc := "(II)Z" } : Jvm.MethodName)) ∈ lw_all := lw_g (lw_at lw_m7 45 rfl) rfl
theorem q1568 : (Jvm.Cond.privateMethod ({ cls := "LifeKeysModel", name := "isAmong", desc := "(II)Z" } : Jvm.MethodName)) ∈ lw_tbl := lw_at lw_m7 46 rfl
theorem q1569 : (Jvm.Cond.instanceMethod ({ cls := "LifeKeysModel", name := "isAmong", desc := "(II)Z" } : Jvm.MethodName)) ∈ lw_all := lw_g (lw_at lw_m7 47 rfl) rfl
theorem q1570 : (Jvm.Cond.code ({ cls := "LifeKeysModel", name := "isAmong", desc := "(II)Z" } : Jvm.MethodName) prog_22_method_34_code (3 : Nat) (Option.some Jvm.ClassFile.FieldType.boolean)) ∈ lw_all := lw_g (lw_at lw_m7 48 rfl) rfl
theorem q1571 : (Jvm.Cond.methodLink "LifeKeysModel" (273 : Nat) ({ cls := "LifeKeysModel", name := "pieceOf", desc := "(II)I" } : Jvm.MethodName)) ∈ lw_all := lw_g (lw_at lw_m7 49 rfl) rfl
theorem q1572 : (Jvm.Cond.privateMethod ({ cls := "LifeKeysModel", name := "pieceOf", desc := "(II)I" } : Jvm.MethodName)) ∈ lw_tbl := lw_at lw_m7 50 rfl
theorem q1573 : (Jvm.Cond.instanceMethod ({ cls := "LifeKeysModel", name := "pieceOf", desc := "(II)I" } : Jvm.MethodName)) ∈ lw_all := lw_g (lw_at lw_m7 51 rfl) rfl
theorem q1574 : (Jvm.Cond.code ({ cls := "LifeKeysModel", name := "pieceOf", desc := "(II)I" } : Jvm.MethodName) prog_22_method_35_code (5 : Nat) (Option.some Jvm.ClassFile.FieldType.int)) ∈ lw_all := lw_g (lw_at lw_m7 52 rfl) rfl
theorem q1576 : (Jvm.Cond.instanceMethod ({ cls := "LifeKeysModel", name := "checks", desc := "(II)I" } : Jvm.MethodName)) ∈ lw_all := lw_g (lw_at lw_m7 54 rfl) rfl
theorem q1577 : (Jvm.Cond.selects "LifeKeysModel" ({ cls := "LifeKeysModel", name := "checks", desc := "(II)I" } : Jvm.MethodName) ({ cls := "LifeKeysModel", name := "checks", desc := "(II)I" } : Jvm.MethodName)) ∈ lw_all := lw_g (lw_at lw_m7 55 rfl) rfl
theorem q1578 : (Jvm.Cond.code ({ cls := "LifeKeysModel", name := "checks", desc := "(II)I" } : Jvm.MethodName) prog_22_method_37_code (3 : Nat) (Option.some Jvm.ClassFile.FieldType.int)) ∈ lw_all := lw_g (lw_at lw_m7 56 rfl) rfl
theorem q1580 : (Jvm.Cond.instanceMethod ({ cls := "LifeKeysModel", name := "fits", desc := "(III)I" } : Jvm.MethodName)) ∈ lw_all := lw_g (lw_at lw_m7 58 rfl) rfl
theorem q1581 : (Jvm.Cond.selects "LifeKeysModel" ({ cls := "LifeKeysModel", name := "fits", desc := "(III)I" } : Jvm.MethodName) ({ cls := "LifeKeysModel", name := "fits", desc := "(III)I" } : Jvm.MethodName)) ∈ lw_all := lw_g (lw_at lw_m7 59 rfl) rfl
theorem q1582 : (Jvm.Cond.code ({ cls := "LifeKeysModel", name := "fits", desc := "(III)I" } : Jvm.MethodName) prog_22_method_38_code (6 : Nat) (Option.some Jvm.ClassFile.FieldType.int)) ∈ lw_all := lw_g (lw_at lw_m7 60 rfl) rfl
theorem q1584 : (Jvm.Cond.instanceMethod ({ cls := "LifeKeysModel", name := "lay", desc := "(II)I" } : Jvm.MethodName)) ∈ lw_all := lw_g (lw_at lw_m7 62 rfl) rfl
theorem q1585 : (Jvm.Cond.selects "LifeKeysModel" ({ cls := "LifeKeysModel", name := "lay", desc := "(II)I" } : Jvm.MethodName) ({ cls := "LifeKeysModel", name := "lay", desc := "(II)I" } : Jvm.MethodName)) ∈ lw_all := lw_g (lw_at lw_m7 63 rfl) rfl
theorem q1586 : (Jvm.Cond.code ({ cls := "LifeKeysModel", name := "lay", desc := "(II)I" } : Jvm.MethodName) prog_22_method_39_code (4 : Nat) (Option.some Jvm.ClassFile.FieldType.int)) ∈ lw_all := lw_g (lw_at lw_m7 64 rfl) rfl
theorem q1588 : (Jvm.Cond.instanceMethod ({ cls := "LifeKeysModel", name := "join", desc := "()I" } : Jvm.MethodName)) ∈ lw_all := lw_g (lw_at lw_m7 66 rfl) rfl
theorem q1589 : (Jvm.Cond.selects "LifeKeysModel" ({ cls := "LifeKeysModel", name := "join", desc := "()I" } : Jvm.MethodName) ({ cls := "LifeKeysModel", name := "join", desc := "()I" } : Jvm.MethodName)) ∈ lw_all := lw_g (lw_at lw_m7 67 rfl) rfl
theorem q1590 : (Jvm.Cond.code ({ cls := "LifeKeysModel", name := "join", desc := "()I" } : Jvm.MethodName) prog_22_method_41_code (4 : Nat) (Option.some Jvm.ClassFile.FieldType.int)) ∈ lw_all := lw_g (lw_at lw_m7 68 rfl) rfl
theorem q1591 : (Jvm.Cond.methodLink "LifeKeysModel" (288 : Nat) ({ cls := "LifeKeysModel", name := "weight", desc := "(II)I" } : Jvm.MethodName)) ∈ lw_all := lw_g (lw_at lw_m7 69 rfl) rfl
theorem q1592 : (Jvm.Cond.static ({ cls := "LifeKeysModel", name := "weight", desc := "(II)I" } : Jvm.MethodName)) ∈ lw_all := lw_g (lw_at lw_m7 70 rfl) rfl
theorem q1593 : (Jvm.Cond.code ({ cls := "LifeKeysModel", name := "weight", desc := "(II)I" } : Jvm.MethodName) prog_22_method_40_code (4 : Nat) (Option.some Jvm.ClassFile.FieldType.int)) ∈ lw_all := lw_g (lw_at lw_m7 71 rfl) rfl
theorem q1594 : (Jvm.Cond.methodLink "LifeKeysModel" (280 : Nat) ({ cls := "java/lang/Math", name := "floorMod", desc := "(II)I" } : Jvm.MethodName)) ∈ lw_all := lw_g (lw_at lw_m7 72 rfl) rfl
theorem q1595 : (Jvm.Cond.methodLink "LifeKeysModel" (285 : Nat) ({ cls := "LifeKeysModel", name := "inverse", desc := "(I)I" } : Jvm.MethodName)) ∈ lw_all := lw_g (lw_at lw_m7 73 rfl) rfl
theorem q1596 : (Jvm.Cond.static ({ cls := "LifeKeysModel", name := "inverse", desc := "(I)I" } : Jvm.MethodName)) ∈ lw_all := lw_g (lw_at lw_m7 74 rfl) rfl
theorem q1597 : (Jvm.Cond.code ({ cls := "LifeKeysModel", name := "inverse", desc := "(I)I" } : Jvm.MethodName) prog_22_method_9_code (1 : Nat) (Option.some Jvm.ClassFile.FieldType.int)) ∈ lw_all := lw_g (lw_at lw_m7 75 rfl) rfl
theorem q1599 : (Jvm.Cond.instanceMethod ({ cls := "LifeKeysModel", name := "left", desc := "(II)I" } : Jvm.MethodName)) ∈ lw_all := lw_g (lw_at lw_m7 77 rfl) rfl
theorem q1600 : (Jvm.Cond.selects "LifeKeysModel" ({ cls := "LifeKeysModel", name := "left", desc := "(II)I" } : Jvm.MethodName) ({ cls := "LifeKeysModel", name := "left", desc := "(II)I" } : Jvm.MethodName)) ∈ lw_all := lw_g (lw_at lw_m7 78 rfl) rfl
theorem q1601 : (Jvm.Cond.code ({ cls := "LifeKeysModel", name := "left", desc := "(II)I" } : Jvm.MethodName) prog_22_method_42_code (3 : Nat) (Option.some Jvm.ClassFile.FieldType.int)) ∈ lw_all := lw_g (lw_at lw_m7 79 rfl) rfl
theorem q1602 : (Jvm.Cond.methodLink "LifeKeysModel" (291 : Nat) ({ cls := "java/lang/Math", name := "max", desc := "(II)I" } : Jvm.MethodName)) ∈ lw_all := lw_g (lw_at lw_m7 80 rfl) rfl
theorem q1604 : (Jvm.Cond.instanceMethod ({ cls := "LifeKeysModel", name := "got", desc := "(II)J" } : Jvm.MethodName)) ∈ lw_all := lw_g (lw_at lw_m7 82 rfl) rfl
theorem q1605 : (Jvm.Cond.selects "LifeKeysModel" ({ cls := "LifeKeysModel", name := "got", desc := "(II)J" } : Jvm.MethodName) ({ cls := "LifeKeysModel", name := "got", desc := "(II)J" } : Jvm.MethodName)) ∈ lw_all := lw_g (lw_at lw_m7 83 rfl) rfl
theorem q1606 : (Jvm.Cond.code ({ cls := "LifeKeysModel", name := "got", desc := "(II)J" } : Jvm.MethodName) prog_22_method_48_code (3 : Nat) (Option.some Jvm.ClassFile.FieldType.long)) ∈ lw_all := lw_g (lw_at lw_m7 84 rfl) rfl
theorem q1607 : (Jvm.Cond.methodLink "LifeKeysModel" (307 : Nat) ({ cls := "LifeKeysModel", name := "isKnown", desc := "(I)Z" } : Jvm.MethodName)) ∈ lw_all := lw_g (lw_at lw_m7 85 rfl) rfl
theorem q1608 : (Jvm.Cond.privateMethod ({ cls := "LifeKeysModel", name := "isKnown", desc := "(I)Z" } : Jvm.MethodName)) ∈ lw_tbl := lw_at lw_m7 86 rfl
theorem q1609 : (Jvm.Cond.instanceMethod ({ cls := "LifeKeysModel", name := "isKnown", desc := "(I)Z" } : Jvm.MethodName)) ∈ lw_all := lw_g (lw_at lw_m7 87 rfl) rfl
theorem q1610 : (Jvm.Cond.code ({ cls := "LifeKeysModel", name := "isKnown", desc := "(I)Z" } : Jvm.MethodName) prog_22_method_4_code (2 : Nat) (Option.some Jvm.ClassFile.FieldType.boolean)) ∈ lw_all := lw_g (lw_at lw_m7 88 rfl) rfl
theorem q1611 : (Jvm.Cond.methodLink "LifeKeysModel" (310 : Nat) ({ cls := "LifeKeysModel", name := "gets", desc := "(II)J" } : Jvm.MethodName)) ∈ lw_all := lw_g (lw_at lw_m7 89 rfl) rfl
theorem q1612 : (Jvm.Cond.privateMethod ({ cls := "LifeKeysModel", name := "gets", desc := "(II)J" } : Jvm.MethodName)) ∈ lw_tbl := lw_at lw_m7 90 rfl
theorem q1613 : (Jvm.Cond.instanceMethod ({ cls := "LifeKeysModel", name := "gets", desc := "(II)J" } : Jvm.MethodName)) ∈ lw_all := lw_g (lw_at lw_m7 91 rfl) rfl
theorem q1614 : (Jvm.Cond.code ({ cls := "LifeKeysModel", name := "gets", desc := "(II)J" } : Jvm.MethodName) prog_22_method_47_code (3 : Nat) (Option.some Jvm.ClassFile.FieldType.long)) ∈ lw_all := lw_g (lw_at lw_m7 92 rfl) rfl
theorem q1615 : (Jvm.Cond.methodLink "LifeKeysModel" (300 : Nat) ({ cls := "LifeKeysModel", name := "layHas", desc := "(I)V" } : Jvm.MethodName)) ∈ lw_all := lw_g (lw_at lw_m7 93 rfl) rfl
theorem q1616 : (Jvm.Cond.privateMethod ({ cls := "LifeKeysModel", name := "layHas", desc := "(I)V" } : Jvm.MethodName)) ∈ lw_tbl := lw_at lw_m7 94 rfl
theorem q1617 : (Jvm.Cond.instanceMethod ({ cls := "LifeKeysModel", name := "layHas", desc := "(I)V" } : Jvm.MethodName)) ∈ lw_all := lw_g (lw_at lw_m7 95 rfl) rfl
theorem q1618 : (Jvm.Cond.code ({ cls := "LifeKeysModel", name := "layHas", desc := "(I)V" } : Jvm.MethodName) prog_22_method_45_code (4 : Nat) (Option.none : Option Jvm.ClassFile.FieldType)) ∈ lw_all := lw_g (lw_at lw_m7 96 rfl) rfl
theorem q1619 : (Jvm.Cond.methodLink "LifeKeysModel" (303 : Nat) ({ cls := "LifeKeysModel", name := "closes", desc := "(IIII)J" } : Jvm.MethodName)) ∈ lw_all := lw_g (lw_at lw_m7 97 rfl) rfl
theorem q1620 : (Jvm.Cond.privateMethod ({ cls := "LifeKeysModel", name := "closes", desc := "(IIII)J" } : Jvm.MethodName)) ∈ lw_tbl := lw_at lw_m7 98 rfl
theorem q1621 : (Jvm.Cond.instanceMethod ({ cls := "LifeKeysModel", name := "closes", desc := "(IIII)J" } : Jvm.MethodName)) ∈ lw_all := lw_g (lw_at lw_m7 99 rfl) rfl
theorem q1622 : (Jvm.Cond.code ({ cls := "LifeKeysModel", name := "closes", desc := "(IIII)J" } : Jvm.MethodName) prog_22_method_46_code (11 : Nat) (Option.some Jvm.ClassFile.FieldType.long)) ∈ lw_all := lw_g (lw_at lw_m7 100 rfl) rfl
theorem q1623 : (Jvm.Cond.methodLink "LifeKeysModel" (294 : Nat) ({ cls := "LifeKeysModel", name := "isForce", desc := "(II)Z" } : Jvm.MethodName)) ∈ lw_all := lw_g (lw_at lw_m7 101 rfl) rfl
theorem q1624 : (Jvm.Cond.privateMethod ({ cls := "LifeKeysModel", name := "isForce", desc := "(II)Z" } : Jvm.MethodName)) ∈ lw_tbl := lw_at lw_m7 102 rfl
theorem q1625 : (Jvm.Cond.instanceMethod ({ cls := "LifeKeysModel", name := "isForce", desc := "(II)Z" } : Jvm.MethodName)) ∈ lw_all := lw_g (lw_at lw_m7 103 rfl) rfl
theorem q1626 : (Jvm.Cond.code ({ cls := "LifeKeysModel", name := "isForce", desc := "(II)Z" } : Jvm.MethodName) prog_22_method_43_code (3 : Nat) (Option.some Jvm.ClassFile.FieldType.boolean)) ∈ lw_all := lw_g (lw_at lw_m7 104 rfl) rfl
theorem q1627 : (Jvm.Cond.methodLink "LifeKeysModel" (297 : Nat) ({ cls := "LifeKeysModel", name := "isWrapped", desc := "(II)Z" } : Jvm.MethodName)) ∈ lw_all := lw_g (lw_at lw_m7 105 rfl) rfl
theorem q1628 : (Jvm.Cond.privateMethod ({ cls := "LifeKeysModel", name := "isWrapped", desc := "(II)Z" } : Jvm.MethodName)) ∈ lw_tbl := lw_at lw_m7 106 rfl
theorem q1629 : (Jvm.Cond.instanceMethod ({ cls := "LifeKeysModel", name := "isWrapped", desc := "(II)Z" } : Jvm.MethodName)) ∈ lw_all := lw_g (lw_at lw_m7 107 rfl) rfl
theorem q1630 : (Jvm.Cond.code ({ cls := "LifeKeysModel", name := "isWrapped", desc := "(II)Z" } : Jvm.MethodName) prog_22_method_44_code (3 : Nat) (Option.some Jvm.ClassFile.FieldType.boolean)) ∈ lw_all := lw_g (lw_at lw_m7 108 rfl) rfl
theorem q1631 : (Jvm.Cond.constantLong "LifeKeysModel" (314 : Nat) (-1 : Int64)) ∈ lw_all := lw_g (lw_at lw_m7 109 rfl) rfl
theorem q1633 : (Jvm.Cond.instanceMethod ({ cls := "LifeKeysModel", name := "fault", desc := "()I" } : Jvm.MethodName)) ∈ lw_all := lw_g (lw_at lw_m7 111 rfl) rfl
theorem q1634 : (Jvm.Cond.selects "LifeKeysModel" ({ cls := "LifeKeysModel", name := "fault", desc := "()I" } : Jvm.MethodName) ({ cls := "LifeKeysModel", name := "fault", desc := "()I" } : Jvm.MethodName)) ∈ lw_all := lw_g (lw_at lw_m7 112 rfl) rfl
theorem q1635 : (Jvm.Cond.code ({ cls := "LifeKeysModel", name := "fault", desc := "()I" } : Jvm.MethodName) prog_22_method_64_code (2 : Nat) (Option.some Jvm.ClassFile.FieldType.int)) ∈ lw_all := lw_g (lw_at lw_m7 113 rfl) rfl
theorem q1636 : (Jvm.Cond.methodLink "LifeKeysModel" (384 : Nat) ({ cls := "LifeKeysModel", name := "goThrough", desc := "([BII)Z" } : Jvm.MethodName)) ∈ lw_all := lw_g (lw_at lw_m7 114 rfl) rfl
theorem q1637 : (Jvm.Cond.privateMethod ({ cls := "LifeKeysModel", name := "goThrough", desc := "([BII)Z" } : Jvm.MethodName)) ∈ lw_tbl := lw_at lw_m7 115 rfl
theorem q1638 : (Jvm.Cond.instanceMethod ({ cls := "LifeKeysModel", name := "goThrough", desc := "([BII)Z" } : Jvm.MethodName)) ∈ lw_all := lw_g (lw_at lw_m7 116 rfl) rfl
theorem q1639 : (Jvm.Cond.code ({ cls := "LifeKeysModel", name := "goThrough", desc := "([BII)Z" } : Jvm.MethodName) prog_22_method_60_code (5 : Nat) (Option.some Jvm.ClassFile.FieldType.boolean)) ∈ lw_all := lw_g (lw_at lw_m7 117 rfl) rfl
theorem q1640 : (Jvm.Cond.methodLink "LifeKeysModel" (351 : Nat) ({ cls := "LifeKeysModel", name := "any", desc := "()Z" } : Jvm.MethodName)) ∈ lw_all := lw_g (lw_at lw_m7 118 rfl) rfl
theorem q1641 : (Jvm.Cond.privateMethod ({ cls := "LifeKeysModel", name := "any", desc := "()Z" } : Jvm.MethodName)) ∈ lw_tbl := lw_at lw_m7 119 rfl
theorem q1642 : (Jvm.Cond.instanceMethod ({ cls := "LifeKeysModel", name := "any", desc := "()Z" } : Jvm.MethodName)) ∈ lw_all := lw_g (lw_at lw_m7 120 rfl) rfl
theorem q1643 : (Jvm.Cond.code ({ cls := "LifeKeysModel", name := "any", desc := "()Z" } : Jvm.MethodName) prog_22_method_55_code (3 : Nat) (Option.some Jvm.ClassFile.FieldType.boolean)) ∈ lw_all := lw_g (lw_at lw_m7 121 rfl) rfl
theorem q1644 : (Jvm.Cond.methodLink "LifeKeysModel" (342 : Nat) ({ cls := "LifeKeysModel", name := "all", desc := "()Z" } : Jvm.MethodName)) ∈ lw_all := lw_g (lw_at lw_m7 122 rfl) rfl
theorem q1645 : (Jvm.Cond.privateMethod ({ cls := "LifeKeysModel", name := "all", desc := "()Z" } : Jvm.MethodName)) ∈ lw_tbl := lw_at lw_m7 123 rfl
theorem q1646 : (Jvm.Cond.instanceMethod ({ cls := "LifeKeysModel", name := "all", desc := "()Z" } : Jvm.MethodName)) ∈ lw_all := lw_g (lw_at lw_m7 124 rfl) rfl
theorem q1647 : (Jvm.Cond.code ({ cls := "LifeKeysModel", name := "all", desc := "()Z" } : Jvm.MethodName) prog_22_method_56_code (3 : Nat) (Option.some Jvm.ClassFile.FieldType.boolean)) ∈ lw_all := lw_g (lw_at lw_m7 125 rfl) rfl
theorem q1648 : (Jvm.Cond.methodLink "LifeKeysModel" (345 : Nat) ({ cls := "LifeKeysModel", name := "unit", desc := "()Z" } : Jvm.MethodName)) ∈ lw_all := lw_g (lw_at lw_m7 126 rfl) rfl
theorem q1649 : (Jvm.Cond.privateMethod ({ cls := "LifeKeysModel", name := "unit", desc := "()Z" } : Jvm.MethodName)) ∈ lw_tbl := lw_at lw_m7 127 rfl
theorem q1650 : (Jvm.Cond.instanceMethod ({ cls := "LifeKeysModel", name := "unit", desc := "()Z" } : Jvm.MethodName)) ∈ lw_all := lw_g (lw_at lw_m7 128 rfl) rfl
theorem q1651 : (Jvm.Cond.code ({ cls := "LifeKeysModel", name := "unit", desc := "()Z" } : Jvm.MethodName) prog_22_method_57_code (4 : Nat) (Option.some Jvm.ClassFile.FieldType.boolean)) ∈ lw_all := lw_g (lw_at lw_m7 129 rfl) rfl
theorem q1652 : (Jvm.Cond.methodLink "LifeKeysModel" (335 : Nat) ({ cls := "LifeKeysModel", name := "look", desc := "()I" } : Jvm.MethodName)) ∈ lw_all := lw_g (lw_at lw_m7 130 rfl) rfl
theorem q1653 : (Jvm.Cond.privateMethod ({ cls := "LifeKeysModel", name := "look", desc := "()I" } : Jvm.MethodName)) ∈ lw_tbl := lw_at lw_m7 131 rfl
theorem q1654 : (Jvm.Cond.instanceMethod ({ cls := "LifeKeysModel", name := "look", desc := "()I" } : Jvm.MethodName)) ∈ lw_all := lw_g (lw_at lw_m7 132 rfl) rfl
theorem q1655 : (Jvm.Cond.code ({ cls := "LifeKeysModel", name := "look", desc := "()I" } : Jvm.MethodName) prog_22_method_49_code (1 : Nat) (Option.some Jvm.ClassFile.FieldType.int)) ∈ lw_all := lw_g (lw_at lw_m7 133 rfl) rfl
theorem q1656 : (Jvm.Cond.methodLink "LifeKeysModel" (348 : Nat) ({ cls := "LifeKeysModel", name := "goesIn", desc := "()Z" } : Jvm.MethodName)) ∈ lw_all := lw_g (lw_at lw_m7 134 rfl) rfl
theorem q1657 : (Jvm.Cond.privateMethod ({ cls := "LifeKeysModel", name := "goesIn", desc := "()Z" } : Jvm.MethodName)) ∈ lw_tbl := lw_at lw_m7 135 rfl
theorem q1658 : (Jvm.Cond.instanceMethod ({ cls := "LifeKeysModel", name := "goesIn", desc := "()Z" } : Jvm.MethodName)) ∈ lw_all := lw_g (lw_at lw_m7 136 rfl) rfl
theorem q1659 : (Jvm.Cond.code ({ cls := "LifeKeysModel", name := "goesIn", desc := "()Z" } : Jvm.MethodName) prog_22_method_51_code (1 : Nat) (Option.some Jvm.ClassFile.FieldType.boolean)) ∈ lw_all := lw_g (lw_at lw_m7 137 rfl) rfl
theorem q1660 : (Jvm.Cond.methodLink "LifeKeysModel" (331 : Nat) ({ cls := "LifeKeysModel", name := "stop", desc := "()Z" } : Jvm.MethodName)) ∈ lw_all := lw_g (lw_at lw_m7 138 rfl) rfl
theorem q1661 : (Jvm.Cond.privateMethod ({ cls := "LifeKeysModel", name := "stop", desc := "()Z" } : Jvm.MethodName)) ∈ lw_tbl := lw_at lw_m7 139 rfl
theorem q1662 : (Jvm.Cond.instanceMethod ({ cls := "LifeKeysModel", name := "stop", desc := "()Z" } : Jvm.MethodName)) ∈ lw_all := lw_g (lw_at lw_m7 140 rfl) rfl
theorem q1663 : (Jvm.Cond.code ({ cls := "LifeKeysModel", name := "stop", desc := "()Z" } : Jvm.MethodName) prog_22_method_50_code (1 : Nat) (Option.some Jvm.ClassFile.FieldType.boolean)) ∈ lw_all := lw_g (lw_at lw_m7 141 rfl) rfl
theorem q1664 : (Jvm.Cond.methodLink "LifeKeysModel" (354 : Nat) ({ cls := "LifeKeysModel", name := "takes", desc := "(I)Z" } : Jvm.MethodName)) ∈ lw_all := lw_g (lw_at lw_m7 142 rfl) rfl
theorem q1665 : (Jvm.Cond.privateMethod ({ cls := "LifeKeysModel", name := "takes", desc := "(I)Z" } : Jvm.MethodName)) ∈ lw_tbl := lw_at lw_m7 143 rfl
theorem q1666 : (Jvm.Cond.instanceMethod ({ cls := "LifeKeysModel", name := "takes", desc := "(I)Z" } : Jvm.MethodName)) ∈ lw_all := lw_g (lw_at lw_m7 144 rfl) rfl
theorem q1667 : (Jvm.Cond.code ({ cls := "LifeKeysModel", name := "takes", desc := "(I)Z" } : Jvm.MethodName) prog_22_method_52_code (2 : Nat) (Option.some Jvm.ClassFile.FieldType.boolean)) ∈ lw_all := lw_g (lw_at lw_m7 145 rfl) rfl
theorem q1668 : (Jvm.Cond.methodLink "LifeKeysModel" (357 : Nat) ({ cls := "LifeKeysModel", name := "numbe\x72", desc := "(I)I" } : Jvm.MethodName)) ∈ lw_all := lw_g (lw_at lw_m7 146 rfl) rfl
theorem q1669 : (Jvm.Cond.privateMethod ({ cls := "LifeKeysModel", name := "numbe\x72", desc := "(I)I" } : Jvm.MethodName)) ∈ lw_tbl := lw_at lw_m7 147 rfl
theorem q1670 : (Jvm.Cond.instanceMethod ({ cls := "LifeKeysModel", name := "numbe\x72", desc := "(I)I" } : Jvm.MethodName)) ∈ lw_all := lw_g (lw_at lw_m7 148 rfl) rfl
theorem q1671 : (Jvm.Cond.code ({ cls := "LifeKeysModel", name := "numbe\x72", desc := "(I)I" } : Jvm.MethodName) prog_22_method_54_code (5 : Nat) (Option.some Jvm.ClassFile.FieldType.int)) ∈ lw_all := lw_g (lw_at lw_m7 149 rfl) rfl
theorem q1672 : (Jvm.Cond.methodLink "LifeKeysModel" (339 : Nat) ({ cls := "LifeKeysModel", name := "isDigit", desc := "()Z" } : Jvm.MethodName)) ∈ lw_all := lw_g (lw_at lw_m7 150 rfl) rfl
theorem q1673 : (Jvm.Cond.privateMethod ({ cls := "LifeKeysModel", name := "isDigit", desc := "()Z" } : Jvm.MethodName)) ∈ lw_tbl := lw_at lw_m7 151 rfl
theorem q1674 : (Jvm.Cond.instanceMethod ({ cls := "LifeKeysModel", name := "isDigit", desc := "()Z" } : Jvm.MethodName)) ∈ lw_all := lw_g (lw_at lw_m7 152 rfl) rfl
theorem q1675 : (Jvm.Cond.code ({ cls := "LifeKeysModel", name := "isDigit", desc := "()Z" } : Jvm.MethodName) prog_22_method_53_code (1 : Nat) (Option.some Jvm.ClassFile.FieldType.boolean)) ∈ lw_all := lw_g (lw_at lw_m7 153 rfl) rfl
theorem q1676 : (Jvm.Cond.methodLink "LifeKeysModel" (364 : Nat) ({ cls := "LifeKeysModel", name := "isDead", desc := "(I)Z" } : Jvm.MethodName)) ∈ lw_all := lw_g (lw_at lw_m7 154 rfl) rfl
theorem q1677 : (Jvm.Cond.privateMethod ({ cls := "LifeKeysModel", name := "isDead", desc := "(I)Z" } : Jvm.MethodName)) ∈ lw_tbl := lw_at lw_m7 155 rfl
theorem q1678 : (Jvm.Cond.instanceMethod ({ cls := "LifeKeysModel", name := "isDead", desc := "(I)Z" } : Jvm.MethodName)) ∈ lw_all := lw_g (lw_at lw_m7 156 rfl) rfl
theorem q1679 : (Jvm.Cond.code ({ cls := "LifeKeysModel", name := "isDead", desc := "(I)Z" } : Jvm.MethodName) prog_22_method_59_code (2 : Nat) (Option.some Jvm.ClassFile.FieldType.boolean)) ∈ lw_all := lw_g (lw_at lw_m7 157 rfl) rfl
theorem q1680 : (Jvm.Cond.methodLink "LifeKeysModel" (366 : Nat) ({ cls := "LifeKeysModel", name := "saysLast", desc := "(I)I" } : Jvm.MethodName)) ∈ lw_all := lw_g (lw_at lw_m7 158 rfl) rfl
theorem q1681 : (Jvm.Cond.privateMethod ({ cls := "LifeKeysModel", name := "saysLast", desc := "(I)I" } : Jvm.MethodName)) ∈ lw_tbl := lw_at lw_m7 159 rfl
theorem q1682 : (Jvm.Cond.instanceMethod ({ cls := "LifeKeysModel", name := "saysLast", desc := "(I)I" } : Jvm.MethodName)) ∈ lw_all := lw_g (lw_at lw_m7 160 rfl) rfl
theorem q1683 : (Jvm.Cond.code ({ cls := "LifeKeysModel", name := "saysLast", desc := "(I)I" } : Jvm.MethodName) prog_22_method_58_code (4 : Nat) (Option.some Jvm.ClassFile.FieldType.int)) ∈ lw_all := lw_g (lw_at lw_m7 161 rfl) rfl
theorem q1685 : (Jvm.Cond.instanceMethod ({ cls := "LifeKeysModel", name := "rule", desc := "()I" } : Jvm.MethodName)) ∈ lw_all := lw_g (lw_at lw_m7 163 rfl) rfl
theorem q1686 : (Jvm.Cond.selects "LifeKeysModel" ({ cls := "LifeKeysModel", name := "rule", desc := "()I" } : Jvm.MethodName) ({ cls := "LifeKeysModel", name := "rule", desc := "()I" } : Jvm.MethodName)) ∈ lw_all := lw_g (lw_at lw_m7 164 rfl) rfl
theorem q1687 : (Jvm.Cond.code ({ cls := "LifeKeysModel", name := "rule", desc := "()I" } : Jvm.MethodName) prog_22_method_65_code (2 : Nat) (Option.some Jvm.ClassFile.FieldType.int)) ∈ lw_all := lw_g (lw_at lw_m7 165 rfl) rfl
theorem q1688 : (Jvm.Cond.methodLink "LifeKeysModel" (398 : Nat) ({ cls := "LifeKeysModel", name := "fault", desc := "()I" } : Jvm.MethodName)) ∈ lw_all := lw_g (lw_at lw_m7 166 rfl) rfl
theorem q1690 : (Jvm.Cond.instanceMethod ({ cls := "LifeKeysModel", name := "death", desc := "(II)Z" } : Jvm.MethodName)) ∈ lw_all := lw_g (lw_at lw_m7 168 rfl) rfl
theorem q1691 : (Jvm.Cond.selects "LifeKeysModel" ({ cls := "LifeKeysModel", name := "death", desc := "(II)Z" } : Jvm.MethodName) ({ cls := "LifeKeysModel", name := "death", desc := "(II)Z" } : Jvm.MethodName)) ∈ lw_all := lw_g (lw_at lw_m7 169 rfl) rfl
theorem q1692 : (Jvm.Cond.code ({ cls := "LifeKeysModel", name := "death", desc := "(II)Z" } : Jvm.MethodName) prog_22_method_67_code (3 : Nat) (Option.some Jvm.ClassFile.FieldType.boolean)) ∈ lw_all := lw_g (lw_at lw_m7 170 rfl) rfl
theorem q1693 : (Jvm.Cond.methodLink "LifeKeysModel" (403 : Nat) ({ cls := "LifeKeysModel", name := "isRule", desc := "(I)Z" } : Jvm.MethodName)) ∈ lw_all := lw_g (lw_at lw_m7 171 rfl) rfl
theorem q1694 : (Jvm.Cond.privateMethod ({ cls := "LifeKeysModel", name := "isRule", desc := "(I)Z" } : Jvm.MethodName)) ∈ lw_tbl := lw_at lw_m7 172 rfl
theorem q1695 : (Jvm.Cond.instanceMethod ({ cls := "LifeKeysModel", name := "isRule", desc := "(I)Z" } : Jvm.MethodName)) ∈ lw_all := lw_g (lw_at lw_m7 173 rfl) rfl
theorem q1696 : (Jvm.Cond.code ({ cls := "LifeKeysModel", name := "isRule", desc := "(I)Z" } : Jvm.MethodName) prog_22_method_66_code (2 : Nat) (Option.some Jvm.ClassFile.FieldType.boolean)) ∈ lw_all := lw_g (lw_at lw_m7 174 rfl) rfl
theorem q1698 : (Jvm.Cond.instanceMethod ({ cls := "LifeKeysModel", name := "seal", desc := "(IIZ)I" } : Jvm.MethodName)) ∈ lw_all := lw_g (lw_at lw_m7 176 rfl) rfl
theorem q1699 : (Jvm.Cond.selects "LifeKeysModel" ({ cls := "LifeKeysModel", name := "seal", desc := "(IIZ)I" } : Jvm.MethodName) ({ cls := "LifeKeysModel", name := "seal", desc := "(IIZ)I" } : Jvm.MethodName)) ∈ lw_all := lw_g (lw_at lw_m7 177 rfl) rfl
theorem q1700 : (Jvm.Cond.code ({ cls := "LifeKeysModel", name := "seal", desc := "(IIZ)I" } : Jvm.MethodName) prog_22_method_69_code (4 : Nat) (Option.some Jvm.ClassFile.FieldType.int)) ∈ lw_all := lw_g (lw_at lw_m7 178 rfl) rfl
theorem q1702 : (Jvm.Cond.instanceMethod ({ cls := "LifeKeysModel", name := "say", desc := "(IIZ)Z" } : Jvm.MethodName)) ∈ lw_all := lw_g (lw_at lw_m7 180 rfl) rfl
theorem q1703 : (Jvm.Cond.selects "LifeKeysModel" ({ cls := "LifeKeysModel", name := "say", desc := "(IIZ)Z" } : Jvm.MethodName) ({ cls := "LifeKeysModel", name := "say", desc := "(IIZ)Z" } : Jvm.MethodName)) ∈ lw_all := lw_g (lw_at lw_m7 181 rfl) rfl
theorem q1704 : (Jvm.Cond.code ({ cls := "LifeKeysModel", name := "say", desc := "(IIZ)Z" } : Jvm.MethodName) prog_22_method_71_code (4 : Nat) (Option.some Jvm.ClassFile.FieldType.boolean)) ∈ lw_all := lw_g (lw_at lw_m7 182 rfl) rfl
theorem q1705 : (Jvm.Cond.methodLink "LifeKeysModel" (409 : Nat) ({ cls := "LifeKeysModel", name := "isThing", desc := "(I)Z" } : Jvm.MethodName)) ∈ lw_all := lw_g (lw_at lw_m7 183 rfl) rfl
theorem q1706 : (Jvm.Cond.privateMethod ({ cls := "LifeKeysModel", name := "isThing", desc := "(I)Z" } : Jvm.MethodName)) ∈ lw_tbl := lw_at lw_m7 184 rfl
theorem q1707 : (Jvm.Cond.instanceMethod ({ cls := "LifeKeysModel", name := "isThing", desc := "(I)Z" } : Jvm.MethodName)) ∈ lw_all := lw_g (lw_at lw_m7 185 rfl) rfl
theorem q1708 : (Jvm.Cond.code ({ cls := "LifeKeysModel", name := "isThing", desc := "(I)Z" } : Jvm.MethodName) prog_22_method_68_code (2 : Nat) (Option.some Jvm.ClassFile.FieldType.boolean)) ∈ lw_all := lw_g (lw_at lw_m7 186 rfl) rfl
theorem q1709 : (Jvm.Cond.methodLink "LifeKeysModel" (412 : Nat) ({ cls := "LifeKeysModel", name := "says", desc := "(IIZZ)Z" } : Jvm.MethodName)) ∈ lw_all := lw_g (lw_at lw_m7 187 rfl) rfl
theorem q1710 : (Jvm.Cond.privateMethod ({ cls := "LifeKeysModel", name := "says", desc := "(IIZZ)Z" } : Jvm.MethodName)) ∈ lw_tbl := lw_at lw_m7 188 rfl
theorem q1711 : (Jvm.Cond.instanceMethod ({ cls := "LifeKeysModel", name := "says", desc := "(IIZZ)Z" } : Jvm.MethodName)) ∈ lw_all := lw_g (lw_at lw_m7 189 rfl) rfl
theorem q1712 : (Jvm.Cond.code ({ cls := "LifeKeysModel", name := "says", desc := "(IIZZ)Z" } : Jvm.MethodName) prog_22_method_70_code (5 : Nat) (Option.some Jvm.ClassFile.FieldType.boolean)) ∈ lw_all := lw_g (lw_at lw_m7 190 rfl) rfl
theorem q1714 : (Jvm.Cond.instanceMethod ({ cls := "LifeKeysModel", name := "mourn", desc := "(IIZ)Z" } : Jvm.MethodName)) ∈ lw_all := lw_g (lw_at lw_m7 192 rfl) rfl
theorem q1715 : (Jvm.Cond.selects "LifeKeysModel" ({ cls := "LifeKeysModel", name := "mourn", desc := "(IIZ)Z" } : Jvm.MethodName) ({ cls := "LifeKeysModel", name := "mourn", desc := "(IIZ)Z" } : Jvm.MethodName)) ∈ lw_all := lw_g (lw_at lw_m7 193 rfl) rfl
theorem q1716 : (Jvm.Cond.code ({ cls := "LifeKeysModel", name := "mourn", desc := "(IIZ)Z" } : Jvm.MethodName) prog_22_method_72_code (4 : Nat) (Option.some Jvm.ClassFile.FieldType.boolean)) ∈ lw_all := lw_g (lw_at lw_m7 194 rfl) rfl
theorem q1718 : (Jvm.Cond.instanceMethod ({ cls := "LifeKeysModel", name := "ask", desc := "(I)Z" } : Jvm.MethodName)) ∈ lw_all := lw_g (lw_at lw_m7 196 rfl) rfl
theorem q1719 : (Jvm.Cond.selects "LifeKeysModel" ({ cls := "LifeKeysModel", name := "ask", desc := "(I)Z" } : Jvm.MethodName) ({ cls := "LifeKeysModel", name := "ask", desc := "(I)Z" } : Jvm.MethodName)) ∈ lw_all := lw_g (lw_at lw_m7 197 rfl) rfl
theorem q1720 : (Jvm.Cond.code ({ cls := "LifeKeysModel", name := "ask", desc := "(I)Z" } : Jvm.MethodName) prog_22_method_73_code (2 : Nat) (Option.some Jvm.ClassFile.FieldType.boolean)) ∈ lw_all := lw_g (lw_at lw_m7 198 rfl) rfl
theorem q1722 : (Jvm.Cond.instanceMethod ({ cls := "LifeKeysModel", name := "may", desc := "(III)I" } : Jvm.MethodName)) ∈ lw_all := lw_g (lw_at lw_m7 200 rfl) rfl
theorem q1723 : (Jvm.Cond.selects "LifeKeysModel" ({ cls := "LifeKeysModel", name := "may", desc := "(III)I" } : Jvm.MethodName) ({ cls := "LifeKeysModel", name := "may", desc := "(III)I" } : Jvm.MethodName)) ∈ lw_all := lw_g (lw_at lw_m7 201 rfl) rfl
theorem q1724 : (Jvm.Cond.code ({ cls := "LifeKeysModel", name := "may", desc := "(III)I" } : Jvm.MethodName) prog_22_method_74_code (4 : Nat) (Option.some Jvm.ClassFile.FieldType.int)) ∈ lw_all := lw_g (lw_at lw_m7 202 rfl) rfl
theorem q1725 : (Jvm.Cond.methodLink "LifeKeysModel" (416 : Nat) ({ cls := "LifeKeysModel", name := "isDay", desc := "(I)Z" } : Jvm.MethodName)) ∈ lw_all := lw_g (lw_at lw_m7 203 rfl) rfl
theorem q1726 : (Jvm.Cond.static ({ cls := "LifeKeysModel", name := "isDay", desc := "(I)Z" } : Jvm.MethodName)) ∈ lw_all := lw_g (lw_at lw_m7 204 rfl) rfl
theorem q1727 : (Jvm.Cond.code ({ cls := "LifeKeysModel", name := "isDay", desc := "(I)Z" } : Jvm.MethodName) prog_22_method_5_code (1 : Nat) (Option.some Jvm.ClassFile.FieldType.boolean)) ∈ lw_all := lw_g (lw_at lw_m7 205 rfl) rfl
theorem q1728 : (Jvm.Cond.methodLink "LifeKeysModel" (419 : Nat) ({ cls := "LifeKeysModel", name := "holdsFo\x72", desc := "(III)Z" } : Jvm.MethodName)) ∈ lw_all := lw_g (lw_at lw_m7 206 rfl) rfl
theorem q1729 : (Jvm.Cond.privateMethod ({ cls := "LifeKeysModel", name := "holdsFo\x72", desc := "(III)Z" } : Jvm.MethodName)) ∈ lw_tbl := lw_at lw_m7 207 rfl
theorem q1730 : (Jvm.Cond.instanceMethod ({ cls := "LifeKeysModel", name := "holdsFo\x72", desc := "(III)Z" } : Jvm.MethodName)) ∈ lw_all := lw_g (lw_at lw_m7 208 rfl) rfl
theorem q1731 : (Jvm.Cond.code ({ cls := "LifeKeysModel", name := "holdsFo\x72", desc := "(III)Z" } : Jvm.MethodName) prog_22_method_63_code (4 : Nat) (Option.some Jvm.ClassFile.FieldType.boolean)) ∈ lw_all := lw_g (lw_at lw_m7 209 rfl) rfl
theorem q1732 : (Jvm.Cond.methodLink "LifeKeysModel" (394 : Nat) ({ cls := "LifeKeysModel", name := "findDead", desc := "(II)V" } : Jvm.MethodName)) ∈ lw_all := lw_g (lw_at lw_m7 210 rfl) rfl
theorem q1733 : (Jvm.Cond.privateMethod ({ cls := "LifeKeysModel", name := "findDead", desc := "(II)V" } : Jvm.MethodName)) ∈ lw_tbl := lw_at lw_m7 211 rfl
theorem q1734 : (Jvm.Cond.instanceMethod ({ cls := "LifeKeysModel", name := "findDead", desc := "(II)V" } : Jvm.MethodName)) ∈ lw_all := lw_g (lw_at lw_m7 212 rfl) rfl
theorem q1735 : (Jvm.Cond.code ({ cls := "LifeKeysModel", name := "findDead", desc := "(II)V" } : Jvm.MethodName) prog_22_method_62_code (6 : Nat) (Option.none : Option Jvm.ClassFile.FieldType)) ∈ lw_all := lw_g (lw_at lw_m7 213 rfl) rfl
theorem q1736 : (Jvm.Cond.methodLink "LifeKeysModel" (391 : Nat) ({ cls := "LifeKeysModel", name := "holds", desc := "(I)Z" } : Jvm.MethodName)) ∈ lw_all := lw_g (lw_at lw_m7 214 rfl) rfl
theorem q1737 : (Jvm.Cond.privateMethod ({ cls := "LifeKeysModel", name := "holds", desc := "(I)Z" } : Jvm.MethodName)) ∈ lw_tbl := lw_at lw_m7 215 rfl
theorem q1738 : (Jvm.Cond.instanceMethod ({ cls := "LifeKeysModel", name := "holds", desc := "(I)Z" } : Jvm.MethodName)) ∈ lw_all := lw_g (lw_at lw_m7 216 rfl) rfl
theorem q1739 : (Jvm.Cond.code ({ cls := "LifeKeysModel", name := "holds", desc := "(I)Z" } : Jvm.MethodName) prog_22_method_61_code (2 : Nat) (Option.some Jvm.ClassFile.FieldType.boolean)) ∈ lw_all := lw_g (lw_at lw_m7 217 rfl) rfl
theorem q1741 : (Jvm.Cond.instanceMethod ({ cls := "LifeKeysModel", name := "dead", desc := "(III)I" } : Jvm.MethodName)) ∈ lw_all := lw_g (lw_at lw_m7 219 rfl) rfl
theorem q1742 : (Jvm.Cond.selects "LifeKeysModel" ({ cls := "LifeKeysModel", name := "dead", desc := "(III)I" } : Jvm.MethodName) ({ cls := "LifeKeysModel", name := "dead", desc := "(III)I" } : Jvm.MethodName)) ∈ lw_all := lw_g (lw_at lw_m7 220 rfl) rfl
theorem q1743 : (Jvm.Cond.code ({ cls := "LifeKeysModel", name := "dead", desc := "(III)I" } : Jvm.MethodName) prog_22_method_75_code (4 : Nat) (Option.some Jvm.ClassFile.FieldType.int)) ∈ lw_all := lw_g (lw_at lw_m7 221 rfl) rfl
theorem q1745 : (Jvm.Cond.instanceMethod ({ cls := "LifeKeysModel", name := "unseal", desc := "(I)I" } : Jvm.MethodName)) ∈ lw_all := lw_g (lw_at lw_m7 223 rfl) rfl
theorem q1746 : (Jvm.Cond.selects "LifeKeysModel" ({ cls := "LifeKeysModel", name := "unseal", desc := "(I)I" } : Jvm.MethodName) ({ cls := "LifeKeysModel", name := "unseal", desc := "(I)I" } : Jvm.MethodName)) ∈ lw_all := lw_g (lw_at lw_m7 224 rfl) rfl
theorem q1747 : (Jvm.Cond.code ({ cls := "LifeKeysModel", name := "unseal", desc := "(I)I" } : Jvm.MethodName) prog_22_method_76_code (2 : Nat) (Option.some Jvm.ClassFile.FieldType.int)) ∈ lw_all := lw_g (lw_at lw_m7 225 rfl) rfl
theorem q1749 : (Jvm.Cond.instanceMethod ({ cls := "LifeKeysModel", name := "sign", desc := "(IIII)I" } : Jvm.MethodName)) ∈ lw_all := lw_g (lw_at lw_m7 227 rfl) rfl
theorem q1750 : (Jvm.Cond.selects "LifeKeysModel" ({ cls := "LifeKeysModel", name := "sign", desc := "(IIII)I" } : Jvm.MethodName) ({ cls := "LifeKeysModel", name := "sign", desc := "(IIII)I" } : Jvm.MethodName)) ∈ lw_all := lw_g (lw_at lw_m7 228 rfl) rfl
theorem q1751 : (Jvm.Cond.code ({ cls := "LifeKeysModel", name := "sign", desc := "(IIII)I" } : Jvm.MethodName) prog_22_method_82_code (5 : Nat) (Option.some Jvm.ClassFile.FieldType.int)) ∈ lw_all := lw_g (lw_at lw_m7 229 rfl) rfl
theorem q1752 : (Jvm.Cond.methodLink "LifeKeysModel" (438 : Nat) ({ cls := "LifeKeysModel", name := "maySign", desc := "(I)Z" } : Jvm.MethodName)) ∈ lw_all := lw_g (lw_at lw_m7 230 rfl) rfl
theorem q1753 : (Jvm.Cond.privateMethod ({ cls := "LifeKeysModel", name := "maySign", desc := "(I)Z" } : Jvm.MethodName)) ∈ lw_tbl := lw_at lw_m7 231 rfl
theorem q1754 : (Jvm.Cond.instanceMethod ({ cls := "LifeKeysModel", name := "maySign", desc := "(I)Z" } : Jvm.MethodName)) ∈ lw_all := lw_g (lw_at lw_m7 232 rfl) rfl
theorem q1755 : (Jvm.Cond.code ({ cls := "LifeKeysModel", name := "maySign", desc := "(I)Z" } : Jvm.MethodName) prog_22_method_78_code (3 : Nat) (Option.some Jvm.ClassFile.FieldType.boolean)) ∈ lw_all := lw_g (lw_at lw_m7 233 rfl) rfl
theorem q1756 : (Jvm.Cond.methodLink "LifeKeysModel" (425 : Nat) ({ cls := "LifeKeysModel", name := "burntFrom", desc := "(II)I" } : Jvm.MethodName)) ∈ lw_all := lw_g (lw_at lw_m7 234 rfl) rfl
theorem q1757 : (Jvm.Cond.privateMethod ({ cls := "LifeKeysModel", name := "burntFrom", desc := "(II)I" } : Jvm.MethodName)) ∈ lw_tbl := lw_at lw_m7 235 rfl
theorem q1758 : (Jvm.Cond.instanceMethod ({ cls := "LifeKeysModel", name := "burntFrom", desc := "(II)I" } : Jvm.MethodName)) ∈ lw_all := lw_g (lw_at lw_m7 236 rfl) rfl
theorem q1759 : (Jvm.Cond.code ({ cls := "LifeKeysModel", name := "burntFrom", desc := "(II)I" } : Jvm.MethodName) prog_22_method_77_code (5 : Nat) (Option.some Jvm.ClassFile.FieldType.int)) ∈ lw_all := lw_g (lw_at lw_m7 237 rfl) rfl
theorem q1760 : (Jvm.Cond.methodLink "LifeKeysModel" (441 : Nat) ({ cls := "LifeKeysModel", name := "signs", desc := "(III)I" } : Jvm.MethodName)) ∈ lw_all := lw_g (lw_at lw_m7 238 rfl) rfl
theorem q1761 : (Jvm.Cond.privateMethod ({ cls := "LifeKeysModel", name := "signs", desc := "(III)I" } : Jvm.MethodName)) ∈ lw_tbl := lw_at lw_m7 239 rfl
theorem q1762 : (Jvm.Cond.instanceMethod ({ cls := "LifeKeysModel", name := "signs", desc := "(III)I" } : Jvm.MethodName)) ∈ lw_all := lw_g (lw_at lw_m8 0 rfl) rfl
theorem q1763 : (Jvm.Cond.code ({ cls := "LifeKeysModel", name := "signs", desc := "(III)I" } : Jvm.MethodName) prog_22_method_81_code (5 : Nat) (Option.some Jvm.ClassFile.FieldType.int)) ∈ lw_all := lw_g (lw_at lw_m8 1 rfl) rfl
theorem q1764 : (Jvm.Cond.methodLink "LifeKeysModel" (431 : Nat) ({ cls := "LifeKeysModel", name := "challenge", desc := "(II)I" } : Jvm.MethodName)) ∈ lw_all := lw_g (lw_at lw_m8 2 rfl) rfl
theorem q1765 : (Jvm.Cond.static ({ cls := "LifeKeysModel", name := "challenge", desc := "(II)I" } : Jvm.MethodName)) ∈ lw_all := lw_g (lw_at lw_m8 3 rfl) rfl
theorem q1766 : (Jvm.Cond.code ({ cls := "LifeKeysModel", name := "challenge", desc := "(II)I" } : Jvm.MethodName) prog_22_method_79_code (2 : Nat) (Option.some Jvm.ClassFile.FieldType.int)) ∈ lw_all := lw_g (lw_at lw_m8 4 rfl) rfl
theorem q1767 : (Jvm.Cond.methodLink "LifeKeysModel" (434 : Nat) ({ cls := "LifeKeysModel", name := "keeps", desc := "(IIII)I" } : Jvm.MethodName)) ∈ lw_all := lw_g (lw_at lw_m8 5 rfl) rfl
theorem q1768 : (Jvm.Cond.privateMethod ({ cls := "LifeKeysModel", name := "keeps", desc := "(IIII)I" } : Jvm.MethodName)) ∈ lw_tbl := lw_at lw_m8 6 rfl
theorem q1769 : (Jvm.Cond.instanceMethod ({ cls := "LifeKeysModel", name := "keeps", desc := "(IIII)I" } : Jvm.MethodName)) ∈ lw_all := lw_g (lw_at lw_m8 7 rfl) rfl
theorem q1770 : (Jvm.Cond.code ({ cls := "LifeKeysModel", name := "keeps", desc := "(IIII)I" } : Jvm.MethodName) prog_22_method_80_code (5 : Nat) (Option.some Jvm.ClassFile.FieldType.int)) ∈ lw_all := lw_g (lw_at lw_m8 8 rfl) rfl
theorem q1772 : (Jvm.Cond.instanceMethod ({ cls := "LifeKeysModel", name := "falsely", desc := "(IZ)Z" } : Jvm.MethodName)) ∈ lw_all := lw_g (lw_at lw_m8 10 rfl) rfl
theorem q1773 : (Jvm.Cond.selects "LifeKeysModel" ({ cls := "LifeKeysModel", name := "falsely", desc := "(IZ)Z" } : Jvm.MethodName) ({ cls := "LifeKeysModel", name := "falsely", desc := "(IZ)Z" } : Jvm.MethodName)) ∈ lw_all := lw_g (lw_at lw_m8 11 rfl) rfl
theorem q1774 : (Jvm.Cond.code ({ cls := "LifeKeysModel", name := "falsely", desc := "(IZ)Z" } : Jvm.MethodName) prog_22_method_83_code (3 : Nat) (Option.some Jvm.ClassFile.FieldType.boolean)) ∈ lw_all := lw_g (lw_at lw_m8 12 rfl) rfl
theorem q1776 : (Jvm.Cond.instanceMethod ({ cls := "LifeKeysModel", name := "several", desc := "(IIIJ)I" } : Jvm.MethodName)) ∈ lw_all := lw_g (lw_at lw_m8 14 rfl) rfl
theorem q1777 : (Jvm.Cond.selects "LifeKeysModel" ({ cls := "LifeKeysModel", name := "several", desc := "(IIIJ)I" } : Jvm.MethodName) ({ cls := "LifeKeysModel", name := "several", desc := "(IIIJ)I" } : Jvm.MethodName)) ∈ lw_all := lw_g (lw_at lw_m8 15 rfl) rfl
theorem q1778 : (Jvm.Cond.code ({ cls := "LifeKeysModel", name := "several", desc := "(IIIJ)I" } : Jvm.MethodName) prog_22_method_84_code (12 : Nat) (Option.some Jvm.ClassFile.FieldType.int)) ∈ lw_all := lw_g (lw_at lw_m8 16 rfl) rfl
theorem q1780 : (Jvm.Cond.instanceMethod ({ cls := "LifeKeysModel", name := "signed", desc := "(II)I" } : Jvm.MethodName)) ∈ lw_all := lw_g (lw_at lw_m8 18 rfl) rfl
theorem q1781 : (Jvm.Cond.selects "LifeKeysModel" ({ cls := "LifeKeysModel", name := "signed", desc := "(II)I" } : Jvm.MethodName) ({ cls := "LifeKeysModel", name := "signed", desc := "(II)I" } : Jvm.MethodName)) ∈ lw_all := lw_g (lw_at lw_m8 19 rfl) rfl
theorem q1782 : (Jvm.Cond.code ({ cls := "LifeKeysModel", name := "signed", desc := "(II)I" } : Jvm.MethodName) prog_22_method_85_code (3 : Nat) (Option.some Jvm.ClassFile.FieldType.int)) ∈ lw_all := lw_g (lw_at lw_m8 20 rfl) rfl
theorem q1784 : (Jvm.Cond.instanceMethod ({ cls := "LifeKeysModel", name := "taken", desc := "(IIII)I" } : Jvm.MethodName)) ∈ lw_all := lw_g (lw_at lw_m8 22 rfl) rfl
theorem q1785 : (Jvm.Cond.selects "LifeKeysModel" ({ cls := "LifeKeysModel", name := "taken", desc := "(IIII)I" } : Jvm.MethodName) ({ cls := "LifeKeysModel", name := "taken", desc := "(IIII)I" } : Jvm.MethodName)) ∈ lw_all := lw_g (lw_at lw_m8 23 rfl) rfl
theorem q1786 : (Jvm.Cond.code ({ cls := "LifeKeysModel", name := "taken", desc := "(IIII)I" } : Jvm.MethodName) prog_22_method_86_code (5 : Nat) (Option.some Jvm.ClassFile.FieldType.int)) ∈ lw_all := lw_g (lw_at lw_m8 24 rfl) rfl
theorem q1788 : (Jvm.Cond.instanceMethod ({ cls := "LifeKeysModel", name := "burn", desc := "(II)Z" } : Jvm.MethodName)) ∈ lw_all := lw_g (lw_at lw_m8 26 rfl) rfl
theorem q1789 : (Jvm.Cond.selects "LifeKeysModel" ({ cls := "LifeKeysModel", name := "burn", desc := "(II)Z" } : Jvm.MethodName) ({ cls := "LifeKeysModel", name := "burn", desc := "(II)Z" } : Jvm.MethodName)) ∈ lw_all := lw_g (lw_at lw_m8 27 rfl) rfl
theorem q1790 : (Jvm.Cond.code ({ cls := "LifeKeysModel", name := "burn", desc := "(II)Z" } : Jvm.MethodName) prog_22_method_87_code (3 : Nat) (Option.some Jvm.ClassFile.FieldType.boolean)) ∈ lw_all := lw_g (lw_at lw_m8 28 rfl) rfl
theorem q1792 : (Jvm.Cond.instanceMethod ({ cls := "LifeKeysModel", name := "old", desc := "(I)Z" } : Jvm.MethodName)) ∈ lw_all := lw_g (lw_at lw_m8 30 rfl) rfl
theorem q1793 : (Jvm.Cond.selects "LifeKeysModel" ({ cls := "LifeKeysModel", name := "old", desc := "(I)Z" } : Jvm.MethodName) ({ cls := "LifeKeysModel", name := "old", desc := "(I)Z" } : Jvm.MethodName)) ∈ lw_all := lw_g (lw_at lw_m8 31 rfl) rfl
theorem q1794 : (Jvm.Cond.code ({ cls := "LifeKeysModel", name := "old", desc := "(I)Z" } : Jvm.MethodName) prog_22_method_88_code (2 : Nat) (Option.some Jvm.ClassFile.FieldType.boolean)) ∈ lw_all := lw_g (lw_at lw_m8 32 rfl) rfl
theorem q1796 : (Jvm.Cond.instanceMethod ({ cls := "LifeKeysModel", name := "stands", desc := "(II)I" } : Jvm.MethodName)) ∈ lw_all := lw_g (lw_at lw_m8 34 rfl) rfl
theorem q1797 : (Jvm.Cond.selects "LifeKeysModel" ({ cls := "LifeKeysModel", name := "stands", desc := "(II)I" } : Jvm.MethodName) ({ cls := "LifeKeysModel", name := "stands", desc := "(II)I" } : Jvm.MethodName)) ∈ lw_all := lw_g (lw_at lw_m8 35 rfl) rfl
theorem q1798 : (Jvm.Cond.code ({ cls := "LifeKeysModel", name := "stands", desc := "(II)I" } : Jvm.MethodName) prog_22_method_89_code (6 : Nat) (Option.some Jvm.ClassFile.FieldType.int)) ∈ lw_all := lw_g (lw_at lw_m8 36 rfl) rfl
theorem q1800 : (Jvm.Cond.instanceMethod ({ cls := "LifeKeysModel", name := "lend", desc := "(IIIII)I" } : Jvm.MethodName)) ∈ lw_all := lw_g (lw_at lw_m8 38 rfl) rfl
theorem q1801 : (Jvm.Cond.selects "LifeKeysModel" ({ cls := "LifeKeysModel", name := "lend", desc := "(IIIII)I" } : Jvm.MethodName) ({ cls := "LifeKeysModel", name := "lend", desc := "(IIIII)I" } : Jvm.MethodName)) ∈ lw_all := lw_g (lw_at lw_m8 39 rfl) rfl
theorem q1802 : (Jvm.Cond.code ({ cls := "LifeKeysModel", name := "lend", desc := "(IIIII)I" } : Jvm.MethodName) prog_22_method_90_code (6 : Nat) (Option.some Jvm.ClassFile.FieldType.int)) ∈ lw_all := lw_g (lw_at lw_m8 40 rfl) rfl
theorem q1804 : (Jvm.Cond.instanceMethod ({ cls := "LifeKeysModel", name := "use", desc := "(III)I" } : Jvm.MethodName)) ∈ lw_all := lw_g (lw_at lw_m8 42 rfl) rfl
theorem q1805 : (Jvm.Cond.selects "LifeKeysModel" ({ cls := "LifeKeysModel", name := "use", desc := "(III)I" } : Jvm.MethodName) ({ cls := "LifeKeysModel", name := "use", desc := "(III)I" } : Jvm.MethodName)) ∈ lw_all := lw_g (lw_at lw_m8 43 rfl) rfl
theorem q1806 : (Jvm.Cond.code ({ cls := "LifeKeysModel", name := "use", desc := "(III)I" } : Jvm.MethodName) prog_22_method_91_code (4 : Nat) (Option.some Jvm.ClassFile.FieldType.int)) ∈ lw_all := lw_g (lw_at lw_m8 44 rfl) rfl
theorem q1808 : (Jvm.Cond.instanceMethod ({ cls := "LifeKeysModel", name := "back", desc := "(I)Z" } : Jvm.MethodName)) ∈ lw_all := lw_g (lw_at lw_m8 46 rfl) rfl
theorem q1809 : (Jvm.Cond.selects "LifeKeysModel" ({ cls := "LifeKeysModel", name := "back", desc := "(I)Z" } : Jvm.MethodName) ({ cls := "LifeKeysModel", name := "back", desc := "(I)Z" } : Jvm.MethodName)) ∈ lw_all := lw_g (lw_at lw_m8 47 rfl) rfl
theorem q1810 : (Jvm.Cond.code ({ cls := "LifeKeysModel", name := "back", desc := "(I)Z" } : Jvm.MethodName) prog_22_method_92_code (2 : Nat) (Option.some Jvm.ClassFile.FieldType.boolean)) ∈ lw_all := lw_g (lw_at lw_m8 48 rfl) rfl
theorem q1812 : (Jvm.Cond.instanceMethod ({ cls := "LifeKeysModel", name := "told", desc := "(II)I" } : Jvm.MethodName)) ∈ lw_all := lw_g (lw_at lw_m8 50 rfl) rfl
theorem q1813 : (Jvm.Cond.selects "LifeKeysModel" ({ cls := "LifeKeysModel", name := "told", desc := "(II)I" } : Jvm.MethodName) ({ cls := "LifeKeysModel", name := "told", desc := "(II)I" } : Jvm.MethodName)) ∈ lw_all := lw_g (lw_at lw_m8 51 rfl) rfl
theorem q1814 : (Jvm.Cond.code ({ cls := "LifeKeysModel", name := "told", desc := "(II)I" } : Jvm.MethodName) prog_22_method_93_code (5 : Nat) (Option.some Jvm.ClassFile.FieldType.int)) ∈ lw_all := lw_g (lw_at lw_m8 52 rfl) rfl
theorem q1816 : (Jvm.Cond.instanceMethod ({ cls := "LifeKeysModel", name := "fall", desc := "(I)I" } : Jvm.MethodName)) ∈ lw_all := lw_g (lw_at lw_m8 54 rfl) rfl
theorem q1817 : (Jvm.Cond.selects "LifeKeysModel" ({ cls := "LifeKeysModel", name := "fall", desc := "(I)I" } : Jvm.MethodName) ({ cls := "LifeKeysModel", name := "fall", desc := "(I)I" } : Jvm.MethodName)) ∈ lw_all := lw_g (lw_at lw_m8 55 rfl) rfl
theorem q1818 : (Jvm.Cond.code ({ cls := "LifeKeysModel", name := "fall", desc := "(I)I" } : Jvm.MethodName) prog_22_method_95_code (2 : Nat) (Option.some Jvm.ClassFile.FieldType.int)) ∈ lw_all := lw_g (lw_at lw_m8 56 rfl) rfl
theorem q1820 : (Jvm.Cond.instanceMethod ({ cls := "LifeKeysModel", name := "fallen", desc := "(II)J" } : Jvm.MethodName)) ∈ lw_all := lw_g (lw_at lw_m8 58 rfl) rfl
theorem q1821 : (Jvm.Cond.selects "LifeKeysModel" ({ cls := "LifeKeysModel", name := "fallen", desc := "(II)J" } : Jvm.MethodName) ({ cls := "LifeKeysModel", name := "fallen", desc := "(II)J" } : Jvm.MethodName)) ∈ lw_all := lw_g (lw_at lw_m8 59 rfl) rfl
theorem q1822 : (Jvm.Cond.code ({ cls := "LifeKeysModel", name := "fallen", desc := "(II)J" } : Jvm.MethodName) prog_22_method_98_code (3 : Nat) (Option.some Jvm.ClassFile.FieldType.long)) ∈ lw_all := lw_g (lw_at lw_m8 60 rfl) rfl
theorem q1823 : (Jvm.Cond.methodLink "LifeKeysModel" (450 : Nat) ({ cls := "LifeKeysModel", name := "isFall", desc := "(I)Z" } : Jvm.MethodName)) ∈ lw_all := lw_g (lw_at lw_m8 61 rfl) rfl
theorem q1824 : (Jvm.Cond.privateMethod ({ cls := "LifeKeysModel", name := "isFall", desc := "(I)Z" } : Jvm.MethodName)) ∈ lw_tbl := lw_at lw_m8 62 rfl
theorem q1825 : (Jvm.Cond.instanceMethod ({ cls := "LifeKeysModel", name := "isFall", desc := "(I)Z" } : Jvm.MethodName)) ∈ lw_all := lw_g (lw_at lw_m8 63 rfl) rfl
theorem q1826 : (Jvm.Cond.code ({ cls := "LifeKeysModel", name := "isFall", desc := "(I)Z" } : Jvm.MethodName) prog_22_method_94_code (2 : Nat) (Option.some Jvm.ClassFile.FieldType.boolean)) ∈ lw_all := lw_g (lw_at lw_m8 64 rfl) rfl
theorem q1827 : (Jvm.Cond.methodLink "LifeKeysModel" (453 : Nat) ({ cls := "LifeKeysModel", name := "allKeys", desc := "()J" } : Jvm.MethodName)) ∈ lw_all := lw_g (lw_at lw_m8 65 rfl) rfl
theorem q1828 : (Jvm.Cond.privateMethod ({ cls := "LifeKeysModel", name := "allKeys", desc := "()J" } : Jvm.MethodName)) ∈ lw_tbl := lw_at lw_m8 66 rfl
theorem q1829 : (Jvm.Cond.instanceMethod ({ cls := "LifeKeysModel", name := "allKeys", desc := "()J" } : Jvm.MethodName)) ∈ lw_all := lw_g (lw_at lw_m8 67 rfl) rfl
theorem q1830 : (Jvm.Cond.code ({ cls := "LifeKeysModel", name := "allKeys", desc := "()J" } : Jvm.MethodName) prog_22_method_97_code (1 : Nat) (Option.some Jvm.ClassFile.FieldType.long)) ∈ lw_all := lw_g (lw_at lw_m8 68 rfl) rfl
theorem q1831 : (Jvm.Cond.methodLink "LifeKeysModel" (457 : Nat) ({ cls := "LifeKeysModel", name := "others", desc := "(I)I" } : Jvm.MethodName)) ∈ lw_all := lw_g (lw_at lw_m8 69 rfl) rfl
theorem q1832 : (Jvm.Cond.privateMethod ({ cls := "LifeKeysModel", name := "others", desc := "(I)I" } : Jvm.MethodName)) ∈ lw_tbl := lw_at lw_m8 70 rfl
theorem q1833 : (Jvm.Cond.instanceMethod ({ cls := "LifeKeysModel", name := "others", desc := "(I)I" } : Jvm.MethodName)) ∈ lw_all := lw_g (lw_at lw_m8 71 rfl) rfl
theorem q1834 : (Jvm.Cond.code ({ cls := "LifeKeysModel", name := "others", desc := "(I)I" } : Jvm.MethodName) prog_22_method_96_code (2 : Nat) (Option.some Jvm.ClassFile.FieldType.int)) ∈ lw_all := lw_g (lw_at lw_m8 72 rfl) rfl
theorem q1836 : (Jvm.Cond.instanceMethod ({ cls := "LifeKeysModel", name := "least", desc := "(II)I" } : Jvm.MethodName)) ∈ lw_all := lw_g (lw_at lw_m8 74 rfl) rfl
theorem q1837 : (Jvm.Cond.selects "LifeKeysModel" ({ cls := "LifeKeysModel", name := "least", desc := "(II)I" } : Jvm.MethodName) ({ cls := "LifeKeysModel", name := "least", desc := "(II)I" } : Jvm.MethodName)) ∈ lw_all := lw_g (lw_at lw_m8 75 rfl) rfl
theorem q1838 : (Jvm.Cond.code ({ cls := "LifeKeysModel", name := "least", desc := "(II)I" } : Jvm.MethodName) prog_22_method_101_code (3 : Nat) (Option.some Jvm.ClassFile.FieldType.int)) ∈ lw_all := lw_g (lw_at lw_m8 76 rfl) rfl
theorem q1839 : (Jvm.Cond.methodLink "LifeKeysModel" (469 : Nat) ({ cls := "LifeKeysModel", name := "finds", desc := "(II)Z" } : Jvm.MethodName)) ∈ lw_all := lw_g (lw_at lw_m8 77 rfl) rfl
theorem q1840 : (Jvm.Cond.privateMethod ({ cls := "LifeKeysModel", name := "finds", desc := "(II)Z" } : Jvm.MethodName)) ∈ lw_tbl := lw_at lw_m8 78 rfl
theorem q1841 : (Jvm.Cond.instanceMethod ({ cls := "LifeKeysModel", name := "finds", desc := "(II)Z" } : Jvm.MethodName)) ∈ lw_all := lw_g (lw_at lw_m8 79 rfl) rfl
theorem q1842 : (Jvm.Cond.code ({ cls := "LifeKeysModel", name := "finds", desc := "(II)Z" } : Jvm.MethodName) prog_22_method_100_code (6 : Nat) (Option.some Jvm.ClassFile.FieldType.boolean)) ∈ lw_all := lw_g (lw_at lw_m8 80 rfl) rfl
theorem q1843 : (Jvm.Cond.methodLink "LifeKeysModel" (466 : Nat) ({ cls := "LifeKeysModel", name := "harms", desc := "(III)Z" } : Jvm.MethodName)) ∈ lw_all := lw_g (lw_at lw_m8 81 rfl) rfl
theorem q1844 : (Jvm.Cond.privateMethod ({ cls := "LifeKeysModel", name := "harms", desc := "(III)Z" } : Jvm.MethodName)) ∈ lw_tbl := lw_at lw_m8 82 rfl
theorem q1845 : (Jvm.Cond.instanceMethod ({ cls := "LifeKeysModel", name := "harms", desc := "(III)Z" } : Jvm.MethodName)) ∈ lw_all := lw_g (lw_at lw_m8 83 rfl) rfl
theorem q1846 : (Jvm.Cond.code ({ cls := "LifeKeysModel", name := "harms", desc := "(III)Z" } : Jvm.MethodName) prog_22_method_99_code (4 : Nat) (Option.some Jvm.ClassFile.FieldType.boolean)) ∈ lw_all := lw_g (lw_at lw_m8 84 rfl) rfl
theorem q1848 : (Jvm.Cond.instanceMethod ({ cls := "LifeKeysModel", name := "ways", desc := "(II)I" } : Jvm.MethodName)) ∈ lw_all := lw_g (lw_at lw_m8 86 rfl) rfl
theorem q1849 : (Jvm.Cond.selects "LifeKeysModel" ({ cls := "LifeKeysModel", name := "ways", desc := "(II)I" } : Jvm.MethodName) ({ cls := "LifeKeysModel", name := "ways", desc := "(II)I" } : Jvm.MethodName)) ∈ lw_all := lw_g (lw_at lw_m8 87 rfl) rfl
theorem q1850 : (Jvm.Cond.code ({ cls := "LifeKeysModel", name := "ways", desc := "(II)I" } : Jvm.MethodName) prog_22_method_102_code (3 : Nat) (Option.some Jvm.ClassFile.FieldType.int)) ∈ lw_all := lw_g (lw_at lw_m8 88 rfl) rfl
theorem q1852 : (Jvm.Cond.instanceMethod ({ cls := "LifeKeysModel", name := "first", desc := "(II)I" } : Jvm.MethodName)) ∈ lw_all := lw_g (lw_at lw_m8 90 rfl) rfl
theorem q1853 : (Jvm.Cond.selects "LifeKeysModel" ({ cls := "LifeKeysModel", name := "first", desc := "(II)I" } : Jvm.MethodName) ({ cls := "LifeKeysModel", name := "first", desc := "(II)I" } : Jvm.MethodName)) ∈ lw_all := lw_g (lw_at lw_m8 91 rfl) rfl
theorem q1854 : (Jvm.Cond.code ({ cls := "LifeKeysModel", name := "first", desc := "(II)I" } : Jvm.MethodName) prog_22_method_103_code (3 : Nat) (Option.some Jvm.ClassFile.FieldType.int)) ∈ lw_all := lw_g (lw_at lw_m8 92 rfl) rfl
theorem q1856 : (Jvm.Cond.instanceMethod ({ cls := "LifeKeysModel", name := "bette\x72", desc := "(I)I" } : Jvm.MethodName)) ∈ lw_all := lw_g (lw_at lw_m8 94 rfl) rfl
theorem q1857 : (Jvm.Cond.selects "LifeKeysModel" ({ cls := "LifeKeysModel", name := "bette\x72", desc := "(I)I" } : Jvm.MethodName) ({ cls := "LifeKeysModel", name := "bette\x72", desc := "(I)I" } : Jvm.MethodName)) ∈ lw_all := lw_g (lw_at lw_m8 95 rfl) rfl
theorem q1858 : (Jvm.Cond.code ({ cls := "LifeKeysModel", name := "bette\x72", desc := "(I)I" } : Jvm.MethodName) prog_22_method_105_code (5 : Nat) (Option.some Jvm.ClassFile.FieldType.int)) ∈ lw_all := lw_g (lw_at lw_m8 96 rfl) rfl
theorem q1859 : (Jvm.Cond.methodLink "LifeKeysModel" (472 : Nat) ({ cls := "LifeKeysModel", name := "isWell", desc := "(II)Z" } : Jvm.MethodName)) ∈ lw_all := lw_g (lw_at lw_m8 97 rfl) rfl
theorem q1860 : (Jvm.Cond.privateMethod ({ cls := "LifeKeysModel", name := "isWell", desc := "(II)Z" } : Jvm.MethodName)) ∈ lw_tbl := lw_at lw_m8 98 rfl
theorem q1861 : (Jvm.Cond.instanceMethod ({ cls := "LifeKeysModel", name := "isWell", desc := "(II)Z" } : Jvm.MethodName)) ∈ lw_all := lw_g (lw_at lw_m8 99 rfl) rfl
theorem q1862 : (Jvm.Cond.code ({ cls := "LifeKeysModel", name := "isWell", desc := "(II)Z" } : Jvm.MethodName) prog_22_method_104_code (5 : Nat) (Option.some Jvm.ClassFile.FieldType.boolean)) ∈ lw_all := lw_g (lw_at lw_m8 100 rfl) rfl
theorem q1863 : (Jvm.Cond.methodLink "LifeKeysModel" (475 : Nat) ({ cls := "java/lang/Math", name := "abs", desc := "(I)I" } : Jvm.MethodName)) ∈ lw_all := lw_g (lw_at lw_m8 101 rfl) rfl
theorem q1865 : (Jvm.Cond.instanceMethod ({ cls := "LifeKeysModel", name := "orde\x72", desc := "(II)I" } : Jvm.MethodName)) ∈ lw_all := lw_g (lw_at lw_m8 103 rfl) rfl
theorem q1866 : (Jvm.Cond.selects "LifeKeysModel" ({ cls := "LifeKeysModel", name := "orde\x72", desc := "(II)I" } : Jvm.MethodName) ({ cls := "LifeKeysModel", name := "orde\x72", desc := "(II)I" } : Jvm.MethodName)) ∈ lw_all := lw_g (lw_at lw_m8 104 rfl) rfl
theorem q1867 : (Jvm.Cond.code ({ cls := "LifeKeysModel", name := "orde\x72", desc := "(II)I" } : Jvm.MethodName) prog_22_method_107_code (10 : Nat) (Option.some Jvm.ClassFile.FieldType.int)) ∈ lw_all := lw_g (lw_at lw_m8 105 rfl) rfl
theorem q1868 : (Jvm.Cond.methodLink "LifeKeysModel" (478 : Nat) ({ cls := "LifeKeysModel", name := "isBarred", desc := "(IJJ)Z" } : Jvm.MethodName)) ∈ lw_all := lw_g (lw_at lw_m8 106 rfl) rfl
theorem q1869 : (Jvm.Cond.privateMethod ({ cls := "LifeKeysModel", name := "isBarred", desc := "(IJJ)Z" } : Jvm.MethodName)) ∈ lw_tbl := lw_at lw_m8 107 rfl
theorem q1870 : (Jvm.Cond.instanceMethod ({ cls := "LifeKeysModel", name := "isBarred", desc := "(IJJ)Z" } : Jvm.MethodName)) ∈ lw_all := lw_g (lw_at lw_m8 108 rfl) rfl
theorem q1871 : (Jvm.Cond.code ({ cls := "LifeKeysModel", name := "isBarred", desc := "(IJJ)Z" } : Jvm.MethodName) prog_22_method_106_code (9 : Nat) (Option.some Jvm.ClassFile.FieldType.boolean)) ∈ lw_all := lw_g (lw_at lw_m8 109 rfl) rfl
theorem q1873 : (Jvm.Cond.instanceMethod ({ cls := "LifeKeysModel", name := "count", desc := "(I)I" } : Jvm.MethodName)) ∈ lw_all := lw_g (lw_at lw_m8 111 rfl) rfl
theorem q1874 : (Jvm.Cond.selects "LifeKeysModel" ({ cls := "LifeKeysModel", name := "count", desc := "(I)I" } : Jvm.MethodName) ({ cls := "LifeKeysModel", name := "count", desc := "(I)I" } : Jvm.MethodName)) ∈ lw_all := lw_g (lw_at lw_m8 112 rfl) rfl
theorem q1875 : (Jvm.Cond.code ({ cls := "LifeKeysModel", name := "count", desc := "(I)I" } : Jvm.MethodName) prog_22_method_108_code (4 : Nat) (Option.some Jvm.ClassFile.FieldType.int)) ∈ lw_all := lw_g (lw_at lw_m8 113 rfl) rfl
theorem q1880 : (Jvm.Cond.castable "LifeKeysModel" "java/lang/Object") ∈ lw_tbl := lw_at lw_m8 118 rfl
theorem in_X3 : ∀ w ∈ wsX30, w ∈ lw_all := lw_in wsX30 [1278, 1280, 1282, 1284, 1286, 1288, 1290, 1292, 1294, 1296, 1298, 1300, 1302, 1304, 1306, 1308, 1310, 1312, 1314, 1316, 1318, 1320, 1322, 1324, 1326, 1328, 1330, 1332, 1334, 1336, 1338, 1340, 1342, 1344, 1346, 1348, 1350, 1352, 1354, 1356, 1358, 1360, 1362, 1364, 1366, 1368, 1370, 1372, 1374, 1376, 1378, 1380, 1382, 1384, 1386, 1388, 1390, 1392, 1394, 1396, 1398, 1400, 1402, 1404, 1406, 1408, 1410, 1412, 1414, 1416, 1418, 1420, 1422, 1424, 1426, 1428, 1430, 1432, 1434, 1436, 1438, 1440, 1442, 1444, 1446] (by decide +kernel) (by decide +kernel)
