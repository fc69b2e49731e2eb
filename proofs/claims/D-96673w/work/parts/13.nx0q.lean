set_option maxRecDepth 100000
theorem q83 : (Jvm.Cond.initialized "SeenInOrderOfAge") ∈ lw_all := lw_g (lw_at lw_m1 1 rfl) rfl
theorem q120 : (Jvm.Cond.instantiable "SeenInOrderOfAge" (12 : Nat)) ∈ lw_all := lw_g (lw_at lw_m1 38 rfl) rfl
theorem q122 : (Jvm.Cond.instanceMethod ({ cls := "SeenInOrderOfAge", name := "<init>", desc := "()V" } : Jvm.MethodName)) ∈ lw_all := lw_g (lw_at lw_m1 40 rfl) rfl
theorem q123 : (Jvm.Cond.code ({ cls := "SeenInOrderOfAge", name := "<init>", desc := "()V" } : Jvm.MethodName) prog_1_method_6_code (2 : Nat) (Option.none : Option Jvm.ClassFile.FieldType)) ∈ lw_all := lw_g (lw_at lw_m1 41 rfl) rfl
theorem q124 : (Jvm.Cond.methodLink "SeenInOrderOfAge" (28 : Nat) ({ cls := "java/lang/Object", name := "<init>", desc := "()V" } : Jvm.MethodName)) ∈ lw_all := lw_g (lw_at lw_m1 42 rfl) rfl
theorem q127 : (Jvm.Cond.classLink "SeenInOrderOfAge" (33 : Nat) "SeenInOrderOfAge$Window") ∈ lw_all := lw_g (lw_at lw_m1 45 rfl) rfl
theorem q129 : (Jvm.Cond.methodLinkNest "SeenInOrderOfAge" (35 : Nat) ({ cls := "SeenInOrderOfAge$Window", name := "<init>", desc := "()V" } : Jvm.MethodName) "SeenInOrderOfAge") ∈ lw_tbl := lw_at lw_m1 47 rfl
theorem q146 : (Jvm.Cond.fieldLink "SeenInOrderOfAge" (189 : Nat) "SeenInOrderOfAge$Panes" "sort" "[I") ∈ lw_all := lw_g (lw_at lw_m1 64 rfl) rfl
theorem q160 : (Jvm.Cond.fieldLink "SeenInOrderOfAge" (186 : Nat) "SeenInOrderOfAge$Window" "panes" "LSeenInOrderOfAge$Panes;") ∈ lw_all := lw_g (lw_at lw_m1 78 rfl) rfl
theorem q163 : (Jvm.Cond.fieldLink "SeenInOrderOfAge" (160 : Nat) "SeenInOrderOfAge$Window" "looker" "[LSeenInOrderOfAge$Looker;") ∈ lw_all := lw_g (lw_at lw_m1 81 rfl) rfl
theorem q165 : (Jvm.Cond.fieldLink "SeenInOrderOfAge" (171 : Nat) "SeenInOrderOfAge$Window" "age" "[I") ∈ lw_all := lw_g (lw_at lw_m1 83 rfl) rfl
theorem q168 : (Jvm.Cond.fieldLink "SeenInOrderOfAge" (199 : Nat) "SeenInOrderOfAge$Window" "likes" "[I") ∈ lw_all := lw_g (lw_at lw_m1 86 rfl) rfl
theorem q171 : (Jvm.Cond.fieldLink "SeenInOrderOfAge" (206 : Nat) "SeenInOrderOfAge$Window" "comes" "[I") ∈ lw_all := lw_g (lw_at lw_m1 89 rfl) rfl
theorem q174 : (Jvm.Cond.fieldLink "SeenInOrderOfAge" (209 : Nat) "SeenInOrderOfAge$Window" "shine" "[I") ∈ lw_all := lw_g (lw_at lw_m1 92 rfl) rfl
theorem q176 : (Jvm.Cond.fieldLink "SeenInOrderOfAge" (244 : Nat) "SeenInOrderOfAge$Window" "holds" "[I") ∈ lw_all := lw_g (lw_at lw_m1 94 rfl) rfl
theorem q179 : (Jvm.Cond.fieldLink "SeenInOrderOfAge" (192 : Nat) "SeenInOrderOfAge$Window" "lookers" "I") ∈ lw_all := lw_g (lw_at lw_m1 97 rfl) rfl
theorem q181 : (Jvm.Cond.fieldLink "SeenInOrderOfAge" (382 : Nat) "SeenInOrderOfAge$Window" "evenings" "I") ∈ lw_all := lw_g (lw_at lw_m1 99 rfl) rfl
theorem q183 : (Jvm.Cond.fieldLink "SeenInOrderOfAge" (394 : Nat) "SeenInOrderOfAge$Window" "seed" "I") ∈ lw_all := lw_g (lw_at lw_m1 101 rfl) rfl
theorem q205 : (Jvm.Cond.classLink "SeenInOrderOfAge" (43 : Nat) "SeenInOrderOfAge$Panes") ∈ lw_all := lw_g (lw_at lw_m1 123 rfl) rfl
theorem q206 : (Jvm.Cond.methodLink "SeenInOrderOfAge" (45 : Nat) ({ cls := "SeenInOrderOfAge$Panes", name := "<init>", desc := "()V" } : Jvm.MethodName)) ∈ lw_all := lw_g (lw_at lw_m1 124 rfl) rfl
theorem q207 : (Jvm.Cond.classLink "SeenInOrderOfAge" (50 : Nat) "SeenInOrderOfAge$Evening") ∈ lw_all := lw_g (lw_at lw_m1 125 rfl) rfl
theorem q209 : (Jvm.Cond.methodLinkNest "SeenInOrderOfAge" (52 : Nat) ({ cls := "SeenInOrderOfAge$Evening", name := "<init>", desc := "()V" } : Jvm.MethodName) "SeenInOrderOfAge") ∈ lw_tbl := lw_at lw_m1 127 rfl
theorem q216 : (Jvm.Cond.fieldLink "SeenInOrderOfAge" (290 : Nat) "SeenInOrderOfAge$Evening" "panes" "LSeenInOrderOfAge$Panes;") ∈ lw_all := lw_g (lw_at lw_m1 134 rfl) rfl
theorem q218 : (Jvm.Cond.fieldLink "SeenInOrderOfAge" (168 : Nat) "SeenInOrderOfAge$Evening" "taken" "[I") ∈ lw_all := lw_g (lw_at lw_m1 136 rfl) rfl
theorem q220 : (Jvm.Cond.fieldLink "SeenInOrderOfAge" (368 : Nat) "SeenInOrderOfAge$Evening" "first" "[I") ∈ lw_all := lw_g (lw_at lw_m1 138 rfl) rfl
theorem q223 : (Jvm.Cond.fieldLink "SeenInOrderOfAge" (267 : Nat) "SeenInOrderOfAge$Evening" "glad" "I") ∈ lw_all := lw_g (lw_at lw_m1 141 rfl) rfl
theorem q235 : (Jvm.Cond.classLink "SeenInOrderOfAge" (67 : Nat) "SeenInOrderOfAge$Sheet") ∈ lw_all := lw_g (lw_at lw_m1 153 rfl) rfl
theorem q238 : (Jvm.Cond.methodLinkNest "SeenInOrderOfAge" (79 : Nat) ({ cls := "SeenInOrderOfAge$Sheet", name := "<init>", desc := "()V" } : Jvm.MethodName) "SeenInOrderOfAge") ∈ lw_tbl := lw_at lw_m1 156 rfl
theorem q242 : (Jvm.Cond.fieldLink "SeenInOrderOfAge" (113 : Nat) "SeenInOrderOfAge$Sheet" "held" "Ljava/lang/Object;") ∈ lw_all := lw_g (lw_at lw_m1 160 rfl) rfl
theorem q246 : (Jvm.Cond.fieldLink "SeenInOrderOfAge" (36 : Nat) "SeenInOrderOfAge" "now" "LSeenInOrderOfAge$Window;") ∈ lw_all := lw_g (lw_at lw_m1 164 rfl) rfl
theorem q247 : (Jvm.Cond.fieldLink "SeenInOrderOfAge" (397 : Nat) "SeenInOrderOfAge" "image" "LSeenInOrderOfAge$Window;") ∈ lw_all := lw_g (lw_at lw_m1 165 rfl) rfl
theorem q248 : (Jvm.Cond.fieldLink "SeenInOrderOfAge" (40 : Nat) "SeenInOrderOfAge" "tried" "LSeenInOrderOfAge$Window;") ∈ lw_all := lw_g (lw_at lw_m1 166 rfl) rfl
theorem q249 : (Jvm.Cond.fieldLink "SeenInOrderOfAge" (46 : Nat) "SeenInOrderOfAge" "more" "LSeenInOrderOfAge$Panes;") ∈ lw_all := lw_g (lw_at lw_m1 167 rfl) rfl
theorem q250 : (Jvm.Cond.fieldLink "SeenInOrderOfAge" (53 : Nat) "SeenInOrderOfAge" "evening" "LSeenInOrderOfAge$Evening;") ∈ lw_all := lw_g (lw_at lw_m1 168 rfl) rfl
theorem q251 : (Jvm.Cond.fieldLink "SeenInOrderOfAge" (57 : Nat) "SeenInOrderOfAge" "row" "[I") ∈ lw_all := lw_g (lw_at lw_m1 169 rfl) rfl
theorem q252 : (Jvm.Cond.fieldLink "SeenInOrderOfAge" (61 : Nat) "SeenInOrderOfAge" "gets" "[I") ∈ lw_all := lw_g (lw_at lw_m1 170 rfl) rfl
theorem q253 : (Jvm.Cond.fieldLink "SeenInOrderOfAge" (64 : Nat) "SeenInOrderOfAge" "wish" "[I") ∈ lw_all := lw_g (lw_at lw_m1 171 rfl) rfl
theorem q254 : (Jvm.Cond.fieldLink "SeenInOrderOfAge" (69 : Nat) "SeenInOrderOfAge" "shelves" "[LSeenInOrderOfAge$Sheet;") ∈ lw_all := lw_g (lw_at lw_m1 172 rfl) rfl
theorem q255 : (Jvm.Cond.fieldLink "SeenInOrderOfAge" (73 : Nat) "SeenInOrderOfAge" "tape" "[I") ∈ lw_all := lw_g (lw_at lw_m1 173 rfl) rfl
theorem q256 : (Jvm.Cond.fieldLink "SeenInOrderOfAge" (212 : Nat) "SeenInOrderOfAge" "size" "I") ∈ lw_all := lw_g (lw_at lw_m1 174 rfl) rfl
theorem q257 : (Jvm.Cond.fieldLink "SeenInOrderOfAge" (76 : Nat) "SeenInOrderOfAge" "refused" "[I") ∈ lw_all := lw_g (lw_at lw_m1 175 rfl) rfl
theorem q258 : (Jvm.Cond.lays "SeenInOrderOfAge" "SeenInOrderOfAge" "now" "LSeenInOrderOfAge$Window;") ∈ lw_all := lw_g (lw_at lw_m1 176 rfl) rfl
theorem q259 : (Jvm.Cond.soleField "SeenInOrderOfAge" "now") ∈ lw_all := lw_g (lw_at lw_m1 177 rfl) rfl
theorem q260 : (Jvm.Cond.lays "SeenInOrderOfAge" "SeenInOrderOfAge" "image" "LSeenInOrderOfAge$Window;") ∈ lw_all := lw_g (lw_at lw_m1 178 rfl) rfl
theorem q261 : (Jvm.Cond.soleField "SeenInOrderOfAge" "image") ∈ lw_all := lw_g (lw_at lw_m1 179 rfl) rfl
theorem q262 : (Jvm.Cond.laysFinal "SeenInOrderOfAge" "SeenInOrderOfAge" "tried" "LSeenInOrderOfAge$Window;") ∈ lw_all := lw_g (lw_at lw_m1 180 rfl) rfl
theorem q263 : (Jvm.Cond.soleField "SeenInOrderOfAge" "tried") ∈ lw_all := lw_g (lw_at lw_m1 181 rfl) rfl
theorem q264 : (Jvm.Cond.laysFinal "SeenInOrderOfAge" "SeenInOrderOfAge" "more" "LSeenInOrderOfAge$Panes;") ∈ lw_all := lw_g (lw_at lw_m1 182 rfl) rfl
theorem q265 : (Jvm.Cond.soleField "SeenInOrderOfAge" "more") ∈ lw_all := lw_g (lw_at lw_m1 183 rfl) rfl
theorem q266 : (Jvm.Cond.laysFinal "SeenInOrderOfAge" "SeenInOrderOfAge" "evening" "LSeenInOrderOfAge$Evening;") ∈ lw_all := lw_g (lw_at lw_m1 184 rfl) rfl
theorem q267 : (Jvm.Cond.soleField "SeenInOrderOfAge" "evening") ∈ lw_all := lw_g (lw_at lw_m1 185 rfl) rfl
theorem q268 : (Jvm.Cond.laysFinal "SeenInOrderOfAge" "SeenInOrderOfAge" "row" "[I") ∈ lw_all := lw_g (lw_at lw_m1 186 rfl) rfl
theorem q269 : (Jvm.Cond.soleField "SeenInOrderOfAge" "row") ∈ lw_all := lw_g (lw_at lw_m1 187 rfl) rfl
theorem q270 : (Jvm.Cond.laysFinal "SeenInOrderOfAge" "SeenInOrderOfAge" "gets" "[I") ∈ lw_all := lw_g (lw_at lw_m1 188 rfl) rfl
theorem q271 : (Jvm.Cond.soleField "SeenInOrderOfAge" "gets") ∈ lw_all := lw_g (lw_at lw_m1 189 rfl) rfl
theorem q272 : (Jvm.Cond.laysFinal "SeenInOrderOfAge" "SeenInOrderOfAge" "wish" "[I") ∈ lw_all := lw_g (lw_at lw_m1 190 rfl) rfl
theorem q273 : (Jvm.Cond.soleField "SeenInOrderOfAge" "wish") ∈ lw_all := lw_g (lw_at lw_m1 191 rfl) rfl
theorem q274 : (Jvm.Cond.laysFinal "SeenInOrderOfAge" "SeenInOrderOfAge" "shelves" "[LSeenInOrderOfAge$Sheet;") ∈ lw_all := lw_g (lw_at lw_m1 192 rfl) rfl
theorem q275 : (Jvm.Cond.soleField "SeenInOrderOfAge" "shelves") ∈ lw_all := lw_g (lw_at lw_m1 193 rfl) rfl
theorem q276 : (Jvm.Cond.laysFinal "SeenInOrderOfAge" "SeenInOrderOfAge" "tape" "[I") ∈ lw_all := lw_g (lw_at lw_m1 194 rfl) rfl
theorem q277 : (Jvm.Cond.soleField "SeenInOrderOfAge" "tape") ∈ lw_all := lw_g (lw_at lw_m1 195 rfl) rfl
theorem q278 : (Jvm.Cond.lays "SeenInOrderOfAge" "SeenInOrderOfAge" "size" "I") ∈ lw_all := lw_g (lw_at lw_m1 196 rfl) rfl
theorem q279 : (Jvm.Cond.soleField "SeenInOrderOfAge" "size") ∈ lw_all := lw_g (lw_at lw_m1 197 rfl) rfl
theorem q280 : (Jvm.Cond.laysFinal "SeenInOrderOfAge" "SeenInOrderOfAge" "refused" "[I") ∈ lw_all := lw_g (lw_at lw_m1 198 rfl) rfl
theorem q281 : (Jvm.Cond.soleField "SeenInOrderOfAge" "refused") ∈ lw_all := lw_g (lw_at lw_m1 199 rfl) rfl
theorem q282 : (Jvm.Cond.superclass "SeenInOrderOfAge" "java/lang/Object") ∈ lw_all := lw_g (lw_at lw_m1 200 rfl) rfl
theorem q284 : (Jvm.Cond.instanceMethod ({ cls := "SeenInOrderOfAge", name := "row", desc := "(III)I" } : Jvm.MethodName)) ∈ lw_all := lw_g (lw_at lw_m1 202 rfl) rfl
theorem q285 : (Jvm.Cond.selects "SeenInOrderOfAge" ({ cls := "SeenInOrderOfAge", name := "row", desc := "(III)I" } : Jvm.MethodName) ({ cls := "SeenInOrderOfAge", name := "row", desc := "(III)I" } : Jvm.MethodName)) ∈ lw_all := lw_g (lw_at lw_m1 203 rfl) rfl
theorem q286 : (Jvm.Cond.codeWith ({ cls := "SeenInOrderOfAge", name := "row", desc := "(III)I" } : Jvm.MethodName) prog_1_method_15_code (5 : Nat) (Option.some Jvm.ClassFile.FieldType.int) [((29 : Nat), (43 : Nat), (46 : Nat), (117 : Nat))]) ∈ lw_all := lw_g (lw_at lw_m1 204 rfl) rfl
theorem q287 : (Jvm.Cond.classLink "SeenInOrderOfAge" (117 : Nat) "java/lang/NegativeArraySizeException") ∈ lw_all := lw_g (lw_at lw_m1 205 rfl) rfl
theorem q375 : (Jvm.Cond.methodLink "SeenInOrderOfAge" (101 : Nat) ({ cls := "SeenInOrderOfAge", name := "isShelf", desc := "(I)Z" } : Jvm.MethodName)) ∈ lw_all := lw_g (lw_at lw_m2 53 rfl) rfl
theorem q376 : (Jvm.Cond.static ({ cls := "SeenInOrderOfAge", name := "isShelf", desc := "(I)Z" } : Jvm.MethodName)) ∈ lw_all := lw_g (lw_at lw_m2 54 rfl) rfl
theorem q377 : (Jvm.Cond.code ({ cls := "SeenInOrderOfAge", name := "isShelf", desc := "(I)Z" } : Jvm.MethodName) prog_1_method_8_code (1 : Nat) (Option.some Jvm.ClassFile.FieldType.boolean)) ∈ lw_all := lw_g (lw_at lw_m2 55 rfl) rfl
theorem q378 : (Jvm.Cond.methodLink "SeenInOrderOfAge" (3 : Nat) ({ cls := "SeenInOrderOfAge", name := "isIn", desc := "(III)Z" } : Jvm.MethodName)) ∈ lw_all := lw_g (lw_at lw_m2 56 rfl) rfl
theorem q379 : (Jvm.Cond.static ({ cls := "SeenInOrderOfAge", name := "isIn", desc := "(III)Z" } : Jvm.MethodName)) ∈ lw_all := lw_g (lw_at lw_m2 57 rfl) rfl
theorem q380 : (Jvm.Cond.code ({ cls := "SeenInOrderOfAge", name := "isIn", desc := "(III)Z" } : Jvm.MethodName) prog_1_method_1_code (3 : Nat) (Option.some Jvm.ClassFile.FieldType.boolean)) ∈ lw_all := lw_g (lw_at lw_m2 58 rfl) rfl
theorem q381 : (Jvm.Cond.methodLink "SeenInOrderOfAge" (105 : Nat) ({ cls := "SeenInOrderOfAge", name := "no", desc := "(I)I" } : Jvm.MethodName)) ∈ lw_all := lw_g (lw_at lw_m2 59 rfl) rfl
theorem q382 : (Jvm.Cond.privateMethod ({ cls := "SeenInOrderOfAge", name := "no", desc := "(I)I" } : Jvm.MethodName)) ∈ lw_tbl := lw_at lw_m2 60 rfl
theorem q383 : (Jvm.Cond.instanceMethod ({ cls := "SeenInOrderOfAge", name := "no", desc := "(I)I" } : Jvm.MethodName)) ∈ lw_all := lw_g (lw_at lw_m2 61 rfl) rfl
theorem q384 : (Jvm.Cond.code ({ cls := "SeenInOrderOfAge", name := "no", desc := "(I)I" } : Jvm.MethodName) prog_1_method_7_code (2 : Nat) (Option.some Jvm.ClassFile.FieldType.int)) ∈ lw_all := lw_g (lw_at lw_m2 62 rfl) rfl
theorem q385 : (Jvm.Cond.methodLink "SeenInOrderOfAge" (109 : Nat) ({ cls := "SeenInOrderOfAge", name := "rowOf", desc := "(II)Ljava/lang/Object;" } : Jvm.MethodName)) ∈ lw_all := lw_g (lw_at lw_m2 63 rfl) rfl
theorem q386 : (Jvm.Cond.static ({ cls := "SeenInOrderOfAge", name := "rowOf", desc := "(II)Ljava/lang/Object;" } : Jvm.MethodName)) ∈ lw_all := lw_g (lw_at lw_m2 64 rfl) rfl
theorem q387 : (Jvm.Cond.code ({ cls := "SeenInOrderOfAge", name := "rowOf", desc := "(II)Ljava/lang/Object;" } : Jvm.MethodName) prog_1_method_11_code (2 : Nat) (Option.some (Jvm.ClassFile.FieldType.object "java/lang/Object"))) ∈ lw_all := lw_g (lw_at lw_m2 65 rfl) rfl
theorem q392 : (Jvm.Cond.instanceMethod ({ cls := "SeenInOrderOfAge", name := "set", desc := "(IIJ)I" } : Jvm.MethodName)) ∈ lw_all := lw_g (lw_at lw_m2 70 rfl) rfl
theorem q393 : (Jvm.Cond.selects "SeenInOrderOfAge" ({ cls := "SeenInOrderOfAge", name := "set", desc := "(IIJ)I" } : Jvm.MethodName) ({ cls := "SeenInOrderOfAge", name := "set", desc := "(IIJ)I" } : Jvm.MethodName)) ∈ lw_all := lw_g (lw_at lw_m2 71 rfl) rfl
theorem q394 : (Jvm.Cond.codeWith ({ cls := "SeenInOrderOfAge", name := "set", desc := "(IIJ)I" } : Jvm.MethodName) prog_1_method_17_code (6 : Nat) (Option.some Jvm.ClassFile.FieldType.int) [((14 : Nat), (25 : Nat), (26 : Nat), (119 : Nat)), ((14 : Nat), (25 : Nat), (38 : Nat), (136 : Nat))]) ∈ lw_all := lw_g (lw_at lw_m2 72 rfl) rfl
theorem q395 : (Jvm.Cond.classLink "SeenInOrderOfAge" (119 : Nat) "SeenInOrderOfAge$Refused") ∈ lw_all := lw_g (lw_at lw_m2 73 rfl) rfl
theorem q396 : (Jvm.Cond.classLink "SeenInOrderOfAge" (136 : Nat) "java/lang/ArrayIndexOutOfBoundsException") ∈ lw_all := lw_g (lw_at lw_m2 74 rfl) rfl
theorem q415 : (Jvm.Cond.methodLink "SeenInOrderOfAge" (124 : Nat) ({ cls := "SeenInOrderOfAge", name := "rowIn", desc := "(I)Ljava/lang/Object;" } : Jvm.MethodName)) ∈ lw_all := lw_g (lw_at lw_m2 93 rfl) rfl
theorem q416 : (Jvm.Cond.privateMethod ({ cls := "SeenInOrderOfAge", name := "rowIn", desc := "(I)Ljava/lang/Object;" } : Jvm.MethodName)) ∈ lw_tbl := lw_at lw_m2 94 rfl
theorem q417 : (Jvm.Cond.instanceMethod ({ cls := "SeenInOrderOfAge", name := "rowIn", desc := "(I)Ljava/lang/Object;" } : Jvm.MethodName)) ∈ lw_all := lw_g (lw_at lw_m2 95 rfl) rfl
theorem q418 : (Jvm.Cond.code ({ cls := "SeenInOrderOfAge", name := "rowIn", desc := "(I)Ljava/lang/Object;" } : Jvm.MethodName) prog_1_method_16_code (3 : Nat) (Option.some (Jvm.ClassFile.FieldType.object "java/lang/Object"))) ∈ lw_all := lw_g (lw_at lw_m2 96 rfl) rfl
theorem q419 : (Jvm.Cond.classLink "SeenInOrderOfAge" (7 : Nat) "SeenInOrderOfAge$Looker") ∈ lw_all := lw_g (lw_at lw_m2 97 rfl) rfl
theorem q428 : (Jvm.Cond.methodLink "SeenInOrderOfAge" (121 : Nat) ({ cls := "SeenInOrderOfAge$Refused", name := "<init>", desc := "(I)V" } : Jvm.MethodName)) ∈ lw_all := lw_g (lw_at lw_m2 106 rfl) rfl
theorem q441 : (Jvm.Cond.fieldLink "SeenInOrderOfAge" (132 : Nat) "SeenInOrderOfAge$Refused" "by" "I") ∈ lw_all := lw_g (lw_at lw_m2 119 rfl) rfl
theorem q446 : (Jvm.Cond.methodLink "SeenInOrderOfAge" (128 : Nat) ({ cls := "SeenInOrderOfAge", name := "puts", desc := "(Ljava/lang/Object;IJ)V" } : Jvm.MethodName)) ∈ lw_all := lw_g (lw_at lw_m2 124 rfl) rfl
theorem q447 : (Jvm.Cond.static ({ cls := "SeenInOrderOfAge", name := "puts", desc := "(Ljava/lang/Object;IJ)V" } : Jvm.MethodName)) ∈ lw_all := lw_g (lw_at lw_m2 125 rfl) rfl
theorem q448 : (Jvm.Cond.code ({ cls := "SeenInOrderOfAge", name := "puts", desc := "(Ljava/lang/Object;IJ)V" } : Jvm.MethodName) prog_1_method_14_code (4 : Nat) (Option.none : Option Jvm.ClassFile.FieldType)) ∈ lw_all := lw_g (lw_at lw_m2 126 rfl) rfl
theorem q449 : (Jvm.Cond.methodLink "SeenInOrderOfAge" (95 : Nat) ({ cls := "SeenInOrderOfAge", name := "sortOf", desc := "(Ljava/lang/Object;)I" } : Jvm.MethodName)) ∈ lw_all := lw_g (lw_at lw_m2 127 rfl) rfl
theorem q450 : (Jvm.Cond.static ({ cls := "SeenInOrderOfAge", name := "sortOf", desc := "(Ljava/lang/Object;)I" } : Jvm.MethodName)) ∈ lw_all := lw_g (lw_at lw_m2 128 rfl) rfl
theorem q451 : (Jvm.Cond.code ({ cls := "SeenInOrderOfAge", name := "sortOf", desc := "(Ljava/lang/Object;)I" } : Jvm.MethodName) prog_1_method_12_code (1 : Nat) (Option.some Jvm.ClassFile.FieldType.int)) ∈ lw_all := lw_g (lw_at lw_m2 129 rfl) rfl
theorem q452 : (Jvm.Cond.classLink "SeenInOrderOfAge" (88 : Nat) "[B") ∈ lw_all := lw_g (lw_at lw_m2 130 rfl) rfl
theorem q453 : (Jvm.Cond.classLink "SeenInOrderOfAge" (90 : Nat) "[S") ∈ lw_all := lw_g (lw_at lw_m2 131 rfl) rfl
theorem q454 : (Jvm.Cond.classLink "SeenInOrderOfAge" (92 : Nat) "[I") ∈ lw_all := lw_g (lw_at lw_m2 132 rfl) rfl
theorem q455 : (Jvm.Cond.classLink "SeenInOrderOfAge" (93 : Nat) "[J") ∈ lw_all := lw_g (lw_at lw_m2 133 rfl) rfl
theorem q456 : (Jvm.Cond.classLink "SeenInOrderOfAge" (99 : Nat) "[Z") ∈ lw_all := lw_g (lw_at lw_m2 134 rfl) rfl
theorem q458 : (Jvm.Cond.instanceMethod ({ cls := "SeenInOrderOfAge", name := "copy", desc := "(IIIII)I" } : Jvm.MethodName)) ∈ lw_all := lw_g (lw_at lw_m2 136 rfl) rfl
theorem q459 : (Jvm.Cond.selects "SeenInOrderOfAge" ({ cls := "SeenInOrderOfAge", name := "copy", desc := "(IIIII)I" } : Jvm.MethodName) ({ cls := "SeenInOrderOfAge", name := "copy", desc := "(IIIII)I" } : Jvm.MethodName)) ∈ lw_all := lw_g (lw_at lw_m2 137 rfl) rfl
theorem q460 : (Jvm.Cond.codeWith ({ cls := "SeenInOrderOfAge", name := "copy", desc := "(IIIII)I" } : Jvm.MethodName) prog_1_method_18_code (9 : Nat) (Option.some Jvm.ClassFile.FieldType.int) [((66 : Nat), (80 : Nat), (81 : Nat), (144 : Nat)), ((66 : Nat), (80 : Nat), (90 : Nat), (146 : Nat)), ((66 : Nat), (80 : Nat), (99 : Nat), (148 : Nat))]) ∈ lw_all := lw_g (lw_at lw_m2 138 rfl) rfl
theorem q461 : (Jvm.Cond.classLink "SeenInOrderOfAge" (144 : Nat) "java/lang/NullPointerException") ∈ lw_all := lw_g (lw_at lw_m2 139 rfl) rfl
theorem q486 : (Jvm.Cond.classLink "SeenInOrderOfAge" (146 : Nat) "java/lang/ArrayStoreException") ∈ lw_all := lw_g (lw_at lw_m2 164 rfl) rfl
theorem q500 : (Jvm.Cond.classLink "SeenInOrderOfAge" (148 : Nat) "java/lang/IndexOutOfBoundsException") ∈ lw_all := lw_g (lw_at lw_m2 178 rfl) rfl
theorem q501 : (Jvm.Cond.methodLink "SeenInOrderOfAge" (138 : Nat) ({ cls := "java/lang/System", name := "arraycopy", desc := "(Ljava/lang/Object;ILjava/lang/Object;II)V" } : Jvm.MethodName)) ∈ lw_all := lw_g (lw_at lw_m2 179 rfl) rfl
theorem q505 : (Jvm.Cond.instanceMethod ({ cls := "SeenInOrderOfAge", name := "element", desc := "(II)J" } : Jvm.MethodName)) ∈ lw_all := lw_g (lw_at lw_m2 183 rfl) rfl
theorem q506 : (Jvm.Cond.selects "SeenInOrderOfAge" ({ cls := "SeenInOrderOfAge", name := "element", desc := "(II)J" } : Jvm.MethodName) ({ cls := "SeenInOrderOfAge", name := "element", desc := "(II)J" } : Jvm.MethodName)) ∈ lw_all := lw_g (lw_at lw_m2 184 rfl) rfl
theorem q507 : (Jvm.Cond.codeWith ({ cls := "SeenInOrderOfAge", name := "element", desc := "(II)J" } : Jvm.MethodName) prog_1_method_19_code (4 : Nat) (Option.some Jvm.ClassFile.FieldType.long) [((9 : Nat), (18 : Nat), (19 : Nat), (119 : Nat)), ((9 : Nat), (18 : Nat), (22 : Nat), (136 : Nat))]) ∈ lw_all := lw_g (lw_at lw_m2 185 rfl) rfl
theorem q508 : (Jvm.Cond.methodLink "SeenInOrderOfAge" (150 : Nat) ({ cls := "SeenInOrderOfAge", name := "elementOf", desc := "(Ljava/lang/Object;I)J" } : Jvm.MethodName)) ∈ lw_all := lw_g (lw_at lw_m2 186 rfl) rfl
theorem q509 : (Jvm.Cond.static ({ cls := "SeenInOrderOfAge", name := "elementOf", desc := "(Ljava/lang/Object;I)J" } : Jvm.MethodName)) ∈ lw_all := lw_g (lw_at lw_m2 187 rfl) rfl
theorem q510 : (Jvm.Cond.code ({ cls := "SeenInOrderOfAge", name := "elementOf", desc := "(Ljava/lang/Object;I)J" } : Jvm.MethodName) prog_1_method_13_code (2 : Nat) (Option.some Jvm.ClassFile.FieldType.long)) ∈ lw_all := lw_g (lw_at lw_m2 188 rfl) rfl
theorem q512 : (Jvm.Cond.instanceMethod ({ cls := "SeenInOrderOfAge", name := "holds", desc := "(I)I" } : Jvm.MethodName)) ∈ lw_all := lw_g (lw_at lw_m2 190 rfl) rfl
theorem q513 : (Jvm.Cond.selects "SeenInOrderOfAge" ({ cls := "SeenInOrderOfAge", name := "holds", desc := "(I)I" } : Jvm.MethodName) ({ cls := "SeenInOrderOfAge", name := "holds", desc := "(I)I" } : Jvm.MethodName)) ∈ lw_all := lw_g (lw_at lw_m2 191 rfl) rfl
theorem q514 : (Jvm.Cond.code ({ cls := "SeenInOrderOfAge", name := "holds", desc := "(I)I" } : Jvm.MethodName) prog_1_method_20_code (3 : Nat) (Option.some Jvm.ClassFile.FieldType.int)) ∈ lw_all := lw_g (lw_at lw_m2 192 rfl) rfl
theorem q516 : (Jvm.Cond.instanceMethod ({ cls := "SeenInOrderOfAge", name := "show", desc := "(II)I" } : Jvm.MethodName)) ∈ lw_all := lw_g (lw_at lw_m2 194 rfl) rfl
theorem q517 : (Jvm.Cond.selects "SeenInOrderOfAge" ({ cls := "SeenInOrderOfAge", name := "show", desc := "(II)I" } : Jvm.MethodName) ({ cls := "SeenInOrderOfAge", name := "show", desc := "(II)I" } : Jvm.MethodName)) ∈ lw_all := lw_g (lw_at lw_m2 195 rfl) rfl
theorem q518 : (Jvm.Cond.code ({ cls := "SeenInOrderOfAge", name := "show", desc := "(II)I" } : Jvm.MethodName) prog_1_method_21_code (3 : Nat) (Option.some Jvm.ClassFile.FieldType.int)) ∈ lw_all := lw_g (lw_at lw_m2 196 rfl) rfl
theorem q519 : (Jvm.Cond.methodLink "SeenInOrderOfAge" (157 : Nat) ({ cls := "SeenInOrderOfAge$Window", name := "isLooker", desc := "(I)Z" } : Jvm.MethodName)) ∈ lw_all := lw_g (lw_at lw_m2 197 rfl) rfl
theorem q525 : (Jvm.Cond.instanceMethod ({ cls := "SeenInOrderOfAge", name := "says", desc := "(II)I" } : Jvm.MethodName)) ∈ lw_all := lw_g (lw_at lw_m2 203 rfl) rfl
theorem q526 : (Jvm.Cond.selects "SeenInOrderOfAge" ({ cls := "SeenInOrderOfAge", name := "says", desc := "(II)I" } : Jvm.MethodName) ({ cls := "SeenInOrderOfAge", name := "says", desc := "(II)I" } : Jvm.MethodName)) ∈ lw_all := lw_g (lw_at lw_m2 204 rfl) rfl
theorem q527 : (Jvm.Cond.codeWith ({ cls := "SeenInOrderOfAge", name := "says", desc := "(II)I" } : Jvm.MethodName) prog_1_method_23_code (5 : Nat) (Option.some Jvm.ClassFile.FieldType.int) [((44 : Nat), (95 : Nat), (141 : Nat), (178 : Nat)), ((96 : Nat), (104 : Nat), (141 : Nat), (178 : Nat)), ((105 : Nat), (113 : Nat), (141 : Nat), (178 : Nat)), ((114 : Nat), (122 : Nat), (141 : Nat), (178 : Nat)), ((123 : Nat), (131 : Nat), (141 : Nat), (178 : Nat)), ((132 : Nat), (140 : Nat), (141 : Nat), (178 : Nat))]) ∈ lw_all := lw_g (lw_at lw_m2 205 rfl) rfl
theorem q528 : (Jvm.Cond.classLink "SeenInOrderOfAge" (178 : Nat) "java/lang/ClassCastException") ∈ lw_all := lw_g (lw_at lw_m2 206 rfl) rfl
theorem q542 : (Jvm.Cond.classLink "SeenInOrderOfAge" (13 : Nat) "SeenInOrderOfAge$Child") ∈ lw_all := lw_g (lw_at lw_m2 220 rfl) rfl
theorem q543 : (Jvm.Cond.methodLink "SeenInOrderOfAge" (174 : Nat) ({ cls := "SeenInOrderOfAge", name := "alone", desc := "(LSeenInOrderOfAge$Looker;)I" } : Jvm.MethodName)) ∈ lw_all := lw_g (lw_at lw_m2 221 rfl) rfl
theorem q544 : (Jvm.Cond.privateMethod ({ cls := "SeenInOrderOfAge", name := "alone", desc := "(LSeenInOrderOfAge$Looker;)I" } : Jvm.MethodName)) ∈ lw_tbl := lw_at lw_m2 222 rfl
theorem q545 : (Jvm.Cond.instanceMethod ({ cls := "SeenInOrderOfAge", name := "alone", desc := "(LSeenInOrderOfAge$Looker;)I" } : Jvm.MethodName)) ∈ lw_all := lw_g (lw_at lw_m2 223 rfl) rfl
theorem q546 : (Jvm.Cond.code ({ cls := "SeenInOrderOfAge", name := "alone", desc := "(LSeenInOrderOfAge$Looker;)I" } : Jvm.MethodName) prog_1_method_22_code (2 : Nat) (Option.some Jvm.ClassFile.FieldType.int)) ∈ lw_all := lw_g (lw_at lw_m2 224 rfl) rfl
theorem q547 : (Jvm.Cond.methodLink "SeenInOrderOfAge" (164 : Nat) ({ cls := "SeenInOrderOfAge$Evening", name := "of", desc := "(LSeenInOrderOfAge$Window;I)LSeenInOrderOfAge$Evening;" } : Jvm.MethodName)) ∈ lw_all := lw_g (lw_at lw_m2 225 rfl) rfl
theorem q566 : (Jvm.Cond.static ({ cls := "SeenInOrderOfAge", name := "has", desc := "(II)Z" } : Jvm.MethodName)) ∈ lw_all := lw_g (lw_at lw_m3 4 rfl) rfl
theorem q567 : (Jvm.Cond.code ({ cls := "SeenInOrderOfAge", name := "has", desc := "(II)Z" } : Jvm.MethodName) prog_1_method_2_code (2 : Nat) (Option.some Jvm.ClassFile.FieldType.boolean)) ∈ lw_all := lw_g (lw_at lw_m3 5 rfl) rfl
theorem q643 : (Jvm.Cond.classLink "SeenInOrderOfAge" (16 : Nat) "SeenInOrderOfAge$Old") ∈ lw_all := lw_g (lw_at lw_m3 81 rfl) rfl
theorem q644 : (Jvm.Cond.classLink "SeenInOrderOfAge" (19 : Nat) "SeenInOrderOfAge$Greedy") ∈ lw_all := lw_g (lw_at lw_m3 82 rfl) rfl
theorem q645 : (Jvm.Cond.classLink "SeenInOrderOfAge" (22 : Nat) "SeenInOrderOfAge$Giver") ∈ lw_all := lw_g (lw_at lw_m3 83 rfl) rfl
theorem q646 : (Jvm.Cond.classLink "SeenInOrderOfAge" (25 : Nat) "SeenInOrderOfAge$Shy") ∈ lw_all := lw_g (lw_at lw_m3 84 rfl) rfl
theorem q648 : (Jvm.Cond.instanceMethod ({ cls := "SeenInOrderOfAge", name := "place", desc := "(II)I" } : Jvm.MethodName)) ∈ lw_all := lw_g (lw_at lw_m3 86 rfl) rfl
theorem q649 : (Jvm.Cond.selects "SeenInOrderOfAge" ({ cls := "SeenInOrderOfAge", name := "place", desc := "(II)I" } : Jvm.MethodName) ({ cls := "SeenInOrderOfAge", name := "place", desc := "(II)I" } : Jvm.MethodName)) ∈ lw_all := lw_g (lw_at lw_m3 87 rfl) rfl
theorem q650 : (Jvm.Cond.code ({ cls := "SeenInOrderOfAge", name := "place", desc := "(II)I" } : Jvm.MethodName) prog_1_method_25_code (4 : Nat) (Option.some Jvm.ClassFile.FieldType.int)) ∈ lw_all := lw_g (lw_at lw_m3 88 rfl) rfl
theorem q651 : (Jvm.Cond.methodLink "SeenInOrderOfAge" (180 : Nat) ({ cls := "SeenInOrderOfAge", name := "isPlace", desc := "(I)Z" } : Jvm.MethodName)) ∈ lw_all := lw_g (lw_at lw_m3 89 rfl) rfl
theorem q652 : (Jvm.Cond.static ({ cls := "SeenInOrderOfAge", name := "isPlace", desc := "(I)Z" } : Jvm.MethodName)) ∈ lw_all := lw_g (lw_at lw_m3 90 rfl) rfl
theorem q653 : (Jvm.Cond.code ({ cls := "SeenInOrderOfAge", name := "isPlace", desc := "(I)Z" } : Jvm.MethodName) prog_1_method_3_code (1 : Nat) (Option.some Jvm.ClassFile.FieldType.boolean)) ∈ lw_all := lw_g (lw_at lw_m3 91 rfl) rfl
theorem q654 : (Jvm.Cond.methodLink "SeenInOrderOfAge" (183 : Nat) ({ cls := "SeenInOrderOfAge", name := "isSort", desc := "(I)Z" } : Jvm.MethodName)) ∈ lw_all := lw_g (lw_at lw_m3 92 rfl) rfl
theorem q655 : (Jvm.Cond.static ({ cls := "SeenInOrderOfAge", name := "isSort", desc := "(I)Z" } : Jvm.MethodName)) ∈ lw_all := lw_g (lw_at lw_m3 93 rfl) rfl
theorem q656 : (Jvm.Cond.code ({ cls := "SeenInOrderOfAge", name := "isSort", desc := "(I)Z" } : Jvm.MethodName) prog_1_method_4_code (1 : Nat) (Option.some Jvm.ClassFile.FieldType.boolean)) ∈ lw_all := lw_g (lw_at lw_m3 94 rfl) rfl
theorem q658 : (Jvm.Cond.instanceMethod ({ cls := "SeenInOrderOfAge", name := "looker", desc := "(III)I" } : Jvm.MethodName)) ∈ lw_all := lw_g (lw_at lw_m3 96 rfl) rfl
theorem q659 : (Jvm.Cond.selects "SeenInOrderOfAge" ({ cls := "SeenInOrderOfAge", name := "looker", desc := "(III)I" } : Jvm.MethodName) ({ cls := "SeenInOrderOfAge", name := "looker", desc := "(III)I" } : Jvm.MethodName)) ∈ lw_all := lw_g (lw_at lw_m3 97 rfl) rfl
theorem q660 : (Jvm.Cond.code ({ cls := "SeenInOrderOfAge", name := "looker", desc := "(III)I" } : Jvm.MethodName) prog_1_method_26_code (4 : Nat) (Option.some Jvm.ClassFile.FieldType.int)) ∈ lw_all := lw_g (lw_at lw_m3 98 rfl) rfl
theorem q661 : (Jvm.Cond.methodLink "SeenInOrderOfAge" (195 : Nat) ({ cls := "SeenInOrderOfAge$Window", name := "adds", desc := "(III)I" } : Jvm.MethodName)) ∈ lw_all := lw_g (lw_at lw_m3 99 rfl) rfl
theorem q666 : (Jvm.Cond.static ({ cls := "SeenInOrderOfAge", name := "made", desc := "(III)LSeenInOrderOfAge$Looker;" } : Jvm.MethodName)) ∈ lw_all := lw_g (lw_at lw_m3 104 rfl) rfl
theorem q667 : (Jvm.Cond.code ({ cls := "SeenInOrderOfAge", name := "made", desc := "(III)LSeenInOrderOfAge$Looker;" } : Jvm.MethodName) prog_1_method_5_code (3 : Nat) (Option.some (Jvm.ClassFile.FieldType.object "SeenInOrderOfAge$Looker"))) ∈ lw_all := lw_g (lw_at lw_m3 105 rfl) rfl
theorem q669 : (Jvm.Cond.methodLink "SeenInOrderOfAge" (9 : Nat) ({ cls := "SeenInOrderOfAge$Looker", name := "<init>", desc := "(II)V" } : Jvm.MethodName)) ∈ lw_all := lw_g (lw_at lw_m3 107 rfl) rfl
theorem q674 : (Jvm.Cond.fieldLink "SeenInOrderOfAge" (154 : Nat) "SeenInOrderOfAge$Looker" "number" "I") ∈ lw_all := lw_g (lw_at lw_m3 112 rfl) rfl
theorem q680 : (Jvm.Cond.fieldLink "SeenInOrderOfAge" (241 : Nat) "SeenInOrderOfAge$Looker" "a" "I") ∈ lw_all := lw_g (lw_at lw_m3 118 rfl) rfl
theorem q687 : (Jvm.Cond.methodLink "SeenInOrderOfAge" (15 : Nat) ({ cls := "SeenInOrderOfAge$Child", name := "<init>", desc := "(II)V" } : Jvm.MethodName)) ∈ lw_all := lw_g (lw_at lw_m3 125 rfl) rfl
theorem q694 : (Jvm.Cond.methodLink "SeenInOrderOfAge" (18 : Nat) ({ cls := "SeenInOrderOfAge$Old", name := "<init>", desc := "(II)V" } : Jvm.MethodName)) ∈ lw_all := lw_g (lw_at lw_m3 132 rfl) rfl
theorem q702 : (Jvm.Cond.methodLink "SeenInOrderOfAge" (21 : Nat) ({ cls := "SeenInOrderOfAge$Greedy", name := "<init>", desc := "(II)V" } : Jvm.MethodName)) ∈ lw_all := lw_g (lw_at lw_m3 140 rfl) rfl
theorem q709 : (Jvm.Cond.methodLink "SeenInOrderOfAge" (24 : Nat) ({ cls := "SeenInOrderOfAge$Giver", name := "<init>", desc := "(II)V" } : Jvm.MethodName)) ∈ lw_all := lw_g (lw_at lw_m3 147 rfl) rfl
theorem q716 : (Jvm.Cond.methodLink "SeenInOrderOfAge" (27 : Nat) ({ cls := "SeenInOrderOfAge$Shy", name := "<init>", desc := "(II)V" } : Jvm.MethodName)) ∈ lw_all := lw_g (lw_at lw_m3 154 rfl) rfl
theorem q971 : (Jvm.Cond.instanceMethod ({ cls := "SeenInOrderOfAge", name := "likes", desc := "(IIZ)I" } : Jvm.MethodName)) ∈ lw_all := lw_g (lw_at lw_m4 169 rfl) rfl
theorem q972 : (Jvm.Cond.selects "SeenInOrderOfAge" ({ cls := "SeenInOrderOfAge", name := "likes", desc := "(IIZ)I" } : Jvm.MethodName) ({ cls := "SeenInOrderOfAge", name := "likes", desc := "(IIZ)I" } : Jvm.MethodName)) ∈ lw_all := lw_g (lw_at lw_m4 170 rfl) rfl
theorem q973 : (Jvm.Cond.code ({ cls := "SeenInOrderOfAge", name := "likes", desc := "(IIZ)I" } : Jvm.MethodName) prog_1_method_27_code (5 : Nat) (Option.some Jvm.ClassFile.FieldType.int)) ∈ lw_all := lw_g (lw_at lw_m4 171 rfl) rfl
theorem q974 : (Jvm.Cond.methodLink "SeenInOrderOfAge" (202 : Nat) ({ cls := "SeenInOrderOfAge", name := "has", desc := "(II)Z" } : Jvm.MethodName)) ∈ lw_all := lw_g (lw_at lw_m4 172 rfl) rfl
theorem q976 : (Jvm.Cond.instanceMethod ({ cls := "SeenInOrderOfAge", name := "tell", desc := "(III)I" } : Jvm.MethodName)) ∈ lw_all := lw_g (lw_at lw_m4 174 rfl) rfl
theorem q977 : (Jvm.Cond.selects "SeenInOrderOfAge" ({ cls := "SeenInOrderOfAge", name := "tell", desc := "(III)I" } : Jvm.MethodName) ({ cls := "SeenInOrderOfAge", name := "tell", desc := "(III)I" } : Jvm.MethodName)) ∈ lw_all := lw_g (lw_at lw_m4 175 rfl) rfl
theorem q978 : (Jvm.Cond.code ({ cls := "SeenInOrderOfAge", name := "tell", desc := "(III)I" } : Jvm.MethodName) prog_1_method_28_code (7 : Nat) (Option.some Jvm.ClassFile.FieldType.int)) ∈ lw_all := lw_g (lw_at lw_m4 176 rfl) rfl
theorem q980 : (Jvm.Cond.instanceMethod ({ cls := "SeenInOrderOfAge", name := "feed", desc := "(I)I" } : Jvm.MethodName)) ∈ lw_all := lw_g (lw_at lw_m4 178 rfl) rfl
theorem q981 : (Jvm.Cond.selects "SeenInOrderOfAge" ({ cls := "SeenInOrderOfAge", name := "feed", desc := "(I)I" } : Jvm.MethodName) ({ cls := "SeenInOrderOfAge", name := "feed", desc := "(I)I" } : Jvm.MethodName)) ∈ lw_all := lw_g (lw_at lw_m4 179 rfl) rfl
theorem q982 : (Jvm.Cond.code ({ cls := "SeenInOrderOfAge", name := "feed", desc := "(I)I" } : Jvm.MethodName) prog_1_method_29_code (2 : Nat) (Option.some Jvm.ClassFile.FieldType.int)) ∈ lw_all := lw_g (lw_at lw_m4 180 rfl) rfl
theorem q984 : (Jvm.Cond.instanceMethod ({ cls := "SeenInOrderOfAge", name := "wipe", desc := "()I" } : Jvm.MethodName)) ∈ lw_all := lw_g (lw_at lw_m4 182 rfl) rfl
theorem q985 : (Jvm.Cond.selects "SeenInOrderOfAge" ({ cls := "SeenInOrderOfAge", name := "wipe", desc := "()I" } : Jvm.MethodName) ({ cls := "SeenInOrderOfAge", name := "wipe", desc := "()I" } : Jvm.MethodName)) ∈ lw_all := lw_g (lw_at lw_m4 183 rfl) rfl
theorem q986 : (Jvm.Cond.code ({ cls := "SeenInOrderOfAge", name := "wipe", desc := "()I" } : Jvm.MethodName) prog_1_method_30_code (2 : Nat) (Option.some Jvm.ClassFile.FieldType.int)) ∈ lw_all := lw_g (lw_at lw_m4 184 rfl) rfl
theorem q988 : (Jvm.Cond.instanceMethod ({ cls := "SeenInOrderOfAge", name := "window", desc := "()I" } : Jvm.MethodName)) ∈ lw_all := lw_g (lw_at lw_m4 186 rfl) rfl
theorem q989 : (Jvm.Cond.selects "SeenInOrderOfAge" ({ cls := "SeenInOrderOfAge", name := "window", desc := "()I" } : Jvm.MethodName) ({ cls := "SeenInOrderOfAge", name := "window", desc := "()I" } : Jvm.MethodName)) ∈ lw_all := lw_g (lw_at lw_m4 187 rfl) rfl
theorem q990 : (Jvm.Cond.codeWith ({ cls := "SeenInOrderOfAge", name := "window", desc := "()I" } : Jvm.MethodName) prog_1_method_31_code (5 : Nat) (Option.some Jvm.ClassFile.FieldType.int) [((0 : Nat), (38 : Nat), (45 : Nat), (233 : Nat)), ((0 : Nat), (38 : Nat), (68 : Nat), (0 : Nat)), ((45 : Nat), (61 : Nat), (68 : Nat), (0 : Nat)), ((68 : Nat), (70 : Nat), (68 : Nat), (0 : Nat))]) ∈ lw_all := lw_g (lw_at lw_m4 188 rfl) rfl
theorem q991 : (Jvm.Cond.classLink "SeenInOrderOfAge" (233 : Nat) "SeenInOrderOfAge$Fault") ∈ lw_all := lw_g (lw_at lw_m4 189 rfl) rfl
theorem q992 : (Jvm.Cond.classLink "SeenInOrderOfAge" (215 : Nat) "SeenInOrderOfAge$Reader") ∈ lw_all := lw_g (lw_at lw_m4 190 rfl) rfl
theorem q994 : (Jvm.Cond.methodLink "SeenInOrderOfAge" (217 : Nat) ({ cls := "SeenInOrderOfAge$Window", name := "copied", desc := "()LSeenInOrderOfAge$Window;" } : Jvm.MethodName)) ∈ lw_all := lw_g (lw_at lw_m4 192 rfl) rfl
theorem q1006 : (Jvm.Cond.methodLink "SeenInOrderOfAge" (221 : Nat) ({ cls := "SeenInOrderOfAge$Reader", name := "<init>", desc := "([IILSeenInOrderOfAge$Window;)V" } : Jvm.MethodName)) ∈ lw_all := lw_g (lw_at lw_m4 204 rfl) rfl
theorem q1013 : (Jvm.Cond.fieldLink "SeenInOrderOfAge" (227 : Nat) "SeenInOrderOfAge$Reader" "window" "LSeenInOrderOfAge$Window;") ∈ lw_all := lw_g (lw_at lw_m4 211 rfl) rfl
theorem q1033 : (Jvm.Cond.methodLink "SeenInOrderOfAge" (224 : Nat) ({ cls := "SeenInOrderOfAge$Reader", name := "read", desc := "()I" } : Jvm.MethodName)) ∈ lw_all := lw_g (lw_at lw_m4 231 rfl) rfl
theorem q1094 : (Jvm.Cond.fieldLink "SeenInOrderOfAge" (235 : Nat) "SeenInOrderOfAge$Fault" "place" "I") ∈ lw_all := lw_g (lw_at lw_m5 52 rfl) rfl
theorem q1183 : (Jvm.Cond.methodLink "SeenInOrderOfAge" (230 : Nat) ({ cls := "SeenInOrderOfAge", name := "becomes", desc := "(LSeenInOrderOfAge$Window;)V" } : Jvm.MethodName)) ∈ lw_all := lw_g (lw_at lw_m5 141 rfl) rfl
theorem q1184 : (Jvm.Cond.privateMethod ({ cls := "SeenInOrderOfAge", name := "becomes", desc := "(LSeenInOrderOfAge$Window;)V" } : Jvm.MethodName)) ∈ lw_tbl := lw_at lw_m5 142 rfl
theorem q1185 : (Jvm.Cond.instanceMethod ({ cls := "SeenInOrderOfAge", name := "becomes", desc := "(LSeenInOrderOfAge$Window;)V" } : Jvm.MethodName)) ∈ lw_all := lw_g (lw_at lw_m5 143 rfl) rfl
theorem q1186 : (Jvm.Cond.code ({ cls := "SeenInOrderOfAge", name := "becomes", desc := "(LSeenInOrderOfAge$Window;)V" } : Jvm.MethodName) prog_1_method_24_code (4 : Nat) (Option.none : Option Jvm.ClassFile.FieldType)) ∈ lw_all := lw_g (lw_at lw_m5 144 rfl) rfl
theorem q1188 : (Jvm.Cond.instanceMethod ({ cls := "SeenInOrderOfAge", name := "sortAt", desc := "(I)I" } : Jvm.MethodName)) ∈ lw_all := lw_g (lw_at lw_m5 146 rfl) rfl
theorem q1189 : (Jvm.Cond.selects "SeenInOrderOfAge" ({ cls := "SeenInOrderOfAge", name := "sortAt", desc := "(I)I" } : Jvm.MethodName) ({ cls := "SeenInOrderOfAge", name := "sortAt", desc := "(I)I" } : Jvm.MethodName)) ∈ lw_all := lw_g (lw_at lw_m5 147 rfl) rfl
theorem q1190 : (Jvm.Cond.code ({ cls := "SeenInOrderOfAge", name := "sortAt", desc := "(I)I" } : Jvm.MethodName) prog_1_method_32_code (2 : Nat) (Option.some Jvm.ClassFile.FieldType.int)) ∈ lw_all := lw_g (lw_at lw_m5 148 rfl) rfl
theorem q1192 : (Jvm.Cond.instanceMethod ({ cls := "SeenInOrderOfAge", name := "lookerOf", desc := "(II)I" } : Jvm.MethodName)) ∈ lw_all := lw_g (lw_at lw_m5 150 rfl) rfl
theorem q1193 : (Jvm.Cond.selects "SeenInOrderOfAge" ({ cls := "SeenInOrderOfAge", name := "lookerOf", desc := "(II)I" } : Jvm.MethodName) ({ cls := "SeenInOrderOfAge", name := "lookerOf", desc := "(II)I" } : Jvm.MethodName)) ∈ lw_all := lw_g (lw_at lw_m5 151 rfl) rfl
theorem q1194 : (Jvm.Cond.code ({ cls := "SeenInOrderOfAge", name := "lookerOf", desc := "(II)I" } : Jvm.MethodName) prog_1_method_33_code (3 : Nat) (Option.some Jvm.ClassFile.FieldType.int)) ∈ lw_all := lw_g (lw_at lw_m5 152 rfl) rfl
theorem q1195 : (Jvm.Cond.methodLink "SeenInOrderOfAge" (238 : Nat) ({ cls := "SeenInOrderOfAge$Looker", name := "kind", desc := "()I" } : Jvm.MethodName)) ∈ lw_all := lw_g (lw_at lw_m5 153 rfl) rfl
theorem q1216 : (Jvm.Cond.instanceMethod ({ cls := "SeenInOrderOfAge", name := "left", desc := "(I)I" } : Jvm.MethodName)) ∈ lw_all := lw_g (lw_at lw_m5 174 rfl) rfl
theorem q1217 : (Jvm.Cond.selects "SeenInOrderOfAge" ({ cls := "SeenInOrderOfAge", name := "left", desc := "(I)I" } : Jvm.MethodName) ({ cls := "SeenInOrderOfAge", name := "left", desc := "(I)I" } : Jvm.MethodName)) ∈ lw_all := lw_g (lw_at lw_m5 175 rfl) rfl
theorem q1218 : (Jvm.Cond.code ({ cls := "SeenInOrderOfAge", name := "left", desc := "(I)I" } : Jvm.MethodName) prog_1_method_34_code (2 : Nat) (Option.some Jvm.ClassFile.FieldType.int)) ∈ lw_all := lw_g (lw_at lw_m5 176 rfl) rfl
theorem q1219 : (Jvm.Cond.methodLink "SeenInOrderOfAge" (247 : Nat) ({ cls := "SeenInOrderOfAge", name := "isSet", desc := "(I)Z" } : Jvm.MethodName)) ∈ lw_all := lw_g (lw_at lw_m5 177 rfl) rfl
theorem q1220 : (Jvm.Cond.privateMethod ({ cls := "SeenInOrderOfAge", name := "isSet", desc := "(I)Z" } : Jvm.MethodName)) ∈ lw_tbl := lw_at lw_m5 178 rfl
theorem q1221 : (Jvm.Cond.instanceMethod ({ cls := "SeenInOrderOfAge", name := "isSet", desc := "(I)Z" } : Jvm.MethodName)) ∈ lw_all := lw_g (lw_at lw_m5 179 rfl) rfl
theorem q1222 : (Jvm.Cond.code ({ cls := "SeenInOrderOfAge", name := "isSet", desc := "(I)Z" } : Jvm.MethodName) prog_1_method_9_code (2 : Nat) (Option.some Jvm.ClassFile.FieldType.boolean)) ∈ lw_all := lw_g (lw_at lw_m5 180 rfl) rfl
theorem q1223 : (Jvm.Cond.methodLink "SeenInOrderOfAge" (80 : Nat) ({ cls := "SeenInOrderOfAge$Window", name := "everybody", desc := "()I" } : Jvm.MethodName)) ∈ lw_all := lw_g (lw_at lw_m5 181 rfl) rfl
theorem q1227 : (Jvm.Cond.methodLink "SeenInOrderOfAge" (250 : Nat) ({ cls := "SeenInOrderOfAge$Evening", name := "left", desc := "()I" } : Jvm.MethodName)) ∈ lw_all := lw_g (lw_at lw_m5 185 rfl) rfl
theorem q1236 : (Jvm.Cond.instanceMethod ({ cls := "SeenInOrderOfAge", name := "taken", desc := "(II)I" } : Jvm.MethodName)) ∈ lw_all := lw_g (lw_at lw_m5 194 rfl) rfl
theorem q1237 : (Jvm.Cond.selects "SeenInOrderOfAge" ({ cls := "SeenInOrderOfAge", name := "taken", desc := "(II)I" } : Jvm.MethodName) ({ cls := "SeenInOrderOfAge", name := "taken", desc := "(II)I" } : Jvm.MethodName)) ∈ lw_all := lw_g (lw_at lw_m5 195 rfl) rfl
theorem q1238 : (Jvm.Cond.code ({ cls := "SeenInOrderOfAge", name := "taken", desc := "(II)I" } : Jvm.MethodName) prog_1_method_35_code (3 : Nat) (Option.some Jvm.ClassFile.FieldType.int)) ∈ lw_all := lw_g (lw_at lw_m5 196 rfl) rfl
theorem q1240 : (Jvm.Cond.instanceMethod ({ cls := "SeenInOrderOfAge", name := "glad", desc := "(II)I" } : Jvm.MethodName)) ∈ lw_all := lw_g (lw_at lw_m5 198 rfl) rfl
theorem q1241 : (Jvm.Cond.selects "SeenInOrderOfAge" ({ cls := "SeenInOrderOfAge", name := "glad", desc := "(II)I" } : Jvm.MethodName) ({ cls := "SeenInOrderOfAge", name := "glad", desc := "(II)I" } : Jvm.MethodName)) ∈ lw_all := lw_g (lw_at lw_m5 199 rfl) rfl
theorem q1242 : (Jvm.Cond.code ({ cls := "SeenInOrderOfAge", name := "glad", desc := "(II)I" } : Jvm.MethodName) prog_1_method_36_code (3 : Nat) (Option.some Jvm.ClassFile.FieldType.int)) ∈ lw_all := lw_g (lw_at lw_m5 200 rfl) rfl
theorem q1243 : (Jvm.Cond.methodLink "SeenInOrderOfAge" (253 : Nat) ({ cls := "SeenInOrderOfAge$Evening", name := "many", desc := "()I" } : Jvm.MethodName)) ∈ lw_all := lw_g (lw_at lw_m5 201 rfl) rfl
theorem q1253 : (Jvm.Cond.methodLink "SeenInOrderOfAge" (256 : Nat) ({ cls := "SeenInOrderOfAge$Evening", name := "empty", desc := "(I)I" } : Jvm.MethodName)) ∈ lw_all := lw_g (lw_at lw_m5 211 rfl) rfl
theorem q1257 : (Jvm.Cond.methodLink "SeenInOrderOfAge" (259 : Nat) ({ cls := "java/lang/Integer", name := "bitCount", desc := "(I)I" } : Jvm.MethodName)) ∈ lw_all := lw_g (lw_at lw_m5 215 rfl) rfl
theorem q1259 : (Jvm.Cond.instanceMethod ({ cls := "SeenInOrderOfAge", name := "places", desc := "()I" } : Jvm.MethodName)) ∈ lw_all := lw_g (lw_at lw_m5 217 rfl) rfl
theorem q1260 : (Jvm.Cond.selects "SeenInOrderOfAge" ({ cls := "SeenInOrderOfAge", name := "places", desc := "()I" } : Jvm.MethodName) ({ cls := "SeenInOrderOfAge", name := "places", desc := "()I" } : Jvm.MethodName)) ∈ lw_all := lw_g (lw_at lw_m5 218 rfl) rfl
theorem q1261 : (Jvm.Cond.code ({ cls := "SeenInOrderOfAge", name := "places", desc := "()I" } : Jvm.MethodName) prog_1_method_37_code (1 : Nat) (Option.some Jvm.ClassFile.FieldType.int)) ∈ lw_all := lw_g (lw_at lw_m5 219 rfl) rfl
theorem q1262 : (Jvm.Cond.methodLink "SeenInOrderOfAge" (264 : Nat) ({ cls := "SeenInOrderOfAge$Panes", name := "things", desc := "()I" } : Jvm.MethodName)) ∈ lw_all := lw_g (lw_at lw_m5 220 rfl) rfl
theorem q1264 : (Jvm.Cond.instanceMethod ({ cls := "SeenInOrderOfAge", name := "gladOnes", desc := "(I)I" } : Jvm.MethodName)) ∈ lw_all := lw_g (lw_at lw_m5 222 rfl) rfl
theorem q1265 : (Jvm.Cond.selects "SeenInOrderOfAge" ({ cls := "SeenInOrderOfAge", name := "gladOnes", desc := "(I)I" } : Jvm.MethodName) ({ cls := "SeenInOrderOfAge", name := "gladOnes", desc := "(I)I" } : Jvm.MethodName)) ∈ lw_all := lw_g (lw_at lw_m5 223 rfl) rfl
theorem q1266 : (Jvm.Cond.code ({ cls := "SeenInOrderOfAge", name := "gladOnes", desc := "(I)I" } : Jvm.MethodName) prog_1_method_38_code (2 : Nat) (Option.some Jvm.ClassFile.FieldType.int)) ∈ lw_all := lw_g (lw_at lw_m5 224 rfl) rfl
theorem q1268 : (Jvm.Cond.instanceMethod ({ cls := "SeenInOrderOfAge", name := "empty", desc := "(I)I" } : Jvm.MethodName)) ∈ lw_all := lw_g (lw_at lw_m5 226 rfl) rfl
theorem q1269 : (Jvm.Cond.selects "SeenInOrderOfAge" ({ cls := "SeenInOrderOfAge", name := "empty", desc := "(I)I" } : Jvm.MethodName) ({ cls := "SeenInOrderOfAge", name := "empty", desc := "(I)I" } : Jvm.MethodName)) ∈ lw_all := lw_g (lw_at lw_m5 227 rfl) rfl
theorem q1270 : (Jvm.Cond.code ({ cls := "SeenInOrderOfAge", name := "empty", desc := "(I)I" } : Jvm.MethodName) prog_1_method_39_code (2 : Nat) (Option.some Jvm.ClassFile.FieldType.int)) ∈ lw_all := lw_g (lw_at lw_m5 228 rfl) rfl
theorem q1272 : (Jvm.Cond.instanceMethod ({ cls := "SeenInOrderOfAge", name := "order", desc := "(II)I" } : Jvm.MethodName)) ∈ lw_all := lw_g (lw_at lw_m5 230 rfl) rfl
theorem q1273 : (Jvm.Cond.selects "SeenInOrderOfAge" ({ cls := "SeenInOrderOfAge", name := "order", desc := "(II)I" } : Jvm.MethodName) ({ cls := "SeenInOrderOfAge", name := "order", desc := "(II)I" } : Jvm.MethodName)) ∈ lw_all := lw_g (lw_at lw_m5 231 rfl) rfl
theorem q1274 : (Jvm.Cond.code ({ cls := "SeenInOrderOfAge", name := "order", desc := "(II)I" } : Jvm.MethodName) prog_1_method_41_code (3 : Nat) (Option.some Jvm.ClassFile.FieldType.int)) ∈ lw_all := lw_g (lw_at lw_m5 232 rfl) rfl
theorem q1275 : (Jvm.Cond.methodLink "SeenInOrderOfAge" (273 : Nat) ({ cls := "SeenInOrderOfAge", name := "inOrder", desc := "(II)I" } : Jvm.MethodName)) ∈ lw_all := lw_g (lw_at lw_m5 233 rfl) rfl
theorem q1276 : (Jvm.Cond.privateMethod ({ cls := "SeenInOrderOfAge", name := "inOrder", desc := "(II)I" } : Jvm.MethodName)) ∈ lw_tbl := lw_at lw_m5 234 rfl
theorem q1277 : (Jvm.Cond.instanceMethod ({ cls := "SeenInOrderOfAge", name := "inOrder", desc := "(II)I" } : Jvm.MethodName)) ∈ lw_all := lw_g (lw_at lw_m5 235 rfl) rfl
theorem q1278 : (Jvm.Cond.code ({ cls := "SeenInOrderOfAge", name := "inOrder", desc := "(II)I" } : Jvm.MethodName) prog_1_method_40_code (5 : Nat) (Option.some Jvm.ClassFile.FieldType.int)) ∈ lw_all := lw_g (lw_at lw_m5 236 rfl) rfl
theorem q1279 : (Jvm.Cond.methodLink "SeenInOrderOfAge" (270 : Nat) ({ cls := "SeenInOrderOfAge$Window", name := "next", desc := "(I)I" } : Jvm.MethodName)) ∈ lw_all := lw_g (lw_at lw_m5 237 rfl) rfl
theorem q1281 : (Jvm.Cond.instanceMethod ({ cls := "SeenInOrderOfAge", name := "away", desc := "(II)I" } : Jvm.MethodName)) ∈ lw_all := lw_g (lw_at lw_m5 239 rfl) rfl
theorem q1282 : (Jvm.Cond.selects "SeenInOrderOfAge" ({ cls := "SeenInOrderOfAge", name := "away", desc := "(II)I" } : Jvm.MethodName) ({ cls := "SeenInOrderOfAge", name := "away", desc := "(II)I" } : Jvm.MethodName)) ∈ lw_all := lw_g (lw_at lw_m6 0 rfl) rfl
theorem q1283 : (Jvm.Cond.code ({ cls := "SeenInOrderOfAge", name := "away", desc := "(II)I" } : Jvm.MethodName) prog_1_method_43_code (6 : Nat) (Option.some Jvm.ClassFile.FieldType.int)) ∈ lw_all := lw_g (lw_at lw_m6 1 rfl) rfl
theorem q1284 : (Jvm.Cond.methodLink "SeenInOrderOfAge" (277 : Nat) ({ cls := "SeenInOrderOfAge", name := "isGlad", desc := "(II)Z" } : Jvm.MethodName)) ∈ lw_all := lw_g (lw_at lw_m6 2 rfl) rfl
theorem q1285 : (Jvm.Cond.privateMethod ({ cls := "SeenInOrderOfAge", name := "isGlad", desc := "(II)Z" } : Jvm.MethodName)) ∈ lw_tbl := lw_at lw_m6 3 rfl
theorem q1286 : (Jvm.Cond.instanceMethod ({ cls := "SeenInOrderOfAge", name := "isGlad", desc := "(II)Z" } : Jvm.MethodName)) ∈ lw_all := lw_g (lw_at lw_m6 4 rfl) rfl
theorem q1287 : (Jvm.Cond.code ({ cls := "SeenInOrderOfAge", name := "isGlad", desc := "(II)Z" } : Jvm.MethodName) prog_1_method_42_code (3 : Nat) (Option.some Jvm.ClassFile.FieldType.boolean)) ∈ lw_all := lw_g (lw_at lw_m6 5 rfl) rfl
theorem q1289 : (Jvm.Cond.instanceMethod ({ cls := "SeenInOrderOfAge", name := "crowd", desc := "(II)I" } : Jvm.MethodName)) ∈ lw_all := lw_g (lw_at lw_m6 7 rfl) rfl
theorem q1290 : (Jvm.Cond.selects "SeenInOrderOfAge" ({ cls := "SeenInOrderOfAge", name := "crowd", desc := "(II)I" } : Jvm.MethodName) ({ cls := "SeenInOrderOfAge", name := "crowd", desc := "(II)I" } : Jvm.MethodName)) ∈ lw_all := lw_g (lw_at lw_m6 8 rfl) rfl
theorem q1291 : (Jvm.Cond.code ({ cls := "SeenInOrderOfAge", name := "crowd", desc := "(II)I" } : Jvm.MethodName) prog_1_method_44_code (7 : Nat) (Option.some Jvm.ClassFile.FieldType.int)) ∈ lw_all := lw_g (lw_at lw_m6 9 rfl) rfl
theorem q1292 : (Jvm.Cond.methodLink "SeenInOrderOfAge" (280 : Nat) ({ cls := "java/lang/Math", name := "max", desc := "(II)I" } : Jvm.MethodName)) ∈ lw_all := lw_g (lw_at lw_m6 10 rfl) rfl
theorem q1294 : (Jvm.Cond.instanceMethod ({ cls := "SeenInOrderOfAge", name := "without", desc := "(I)I" } : Jvm.MethodName)) ∈ lw_all := lw_g (lw_at lw_m6 12 rfl) rfl
theorem q1295 : (Jvm.Cond.selects "SeenInOrderOfAge" ({ cls := "SeenInOrderOfAge", name := "without", desc := "(I)I" } : Jvm.MethodName) ({ cls := "SeenInOrderOfAge", name := "without", desc := "(I)I" } : Jvm.MethodName)) ∈ lw_all := lw_g (lw_at lw_m6 13 rfl) rfl
theorem q1296 : (Jvm.Cond.code ({ cls := "SeenInOrderOfAge", name := "without", desc := "(I)I" } : Jvm.MethodName) prog_1_method_45_code (2 : Nat) (Option.some Jvm.ClassFile.FieldType.int)) ∈ lw_all := lw_g (lw_at lw_m6 14 rfl) rfl
theorem q1298 : (Jvm.Cond.instanceMethod ({ cls := "SeenInOrderOfAge", name := "exchanged", desc := "(II)I" } : Jvm.MethodName)) ∈ lw_all := lw_g (lw_at lw_m6 16 rfl) rfl
theorem q1299 : (Jvm.Cond.selects "SeenInOrderOfAge" ({ cls := "SeenInOrderOfAge", name := "exchanged", desc := "(II)I" } : Jvm.MethodName) ({ cls := "SeenInOrderOfAge", name := "exchanged", desc := "(II)I" } : Jvm.MethodName)) ∈ lw_all := lw_g (lw_at lw_m6 17 rfl) rfl
theorem q1300 : (Jvm.Cond.code ({ cls := "SeenInOrderOfAge", name := "exchanged", desc := "(II)I" } : Jvm.MethodName) prog_1_method_47_code (4 : Nat) (Option.some Jvm.ClassFile.FieldType.int)) ∈ lw_all := lw_g (lw_at lw_m6 18 rfl) rfl
theorem q1301 : (Jvm.Cond.methodLink "SeenInOrderOfAge" (287 : Nat) ({ cls := "SeenInOrderOfAge", name := "gladWith", desc := "(II)I" } : Jvm.MethodName)) ∈ lw_all := lw_g (lw_at lw_m6 19 rfl) rfl
theorem q1302 : (Jvm.Cond.privateMethod ({ cls := "SeenInOrderOfAge", name := "gladWith", desc := "(II)I" } : Jvm.MethodName)) ∈ lw_tbl := lw_at lw_m6 20 rfl
theorem q1303 : (Jvm.Cond.instanceMethod ({ cls := "SeenInOrderOfAge", name := "gladWith", desc := "(II)I" } : Jvm.MethodName)) ∈ lw_all := lw_g (lw_at lw_m6 21 rfl) rfl
theorem q1304 : (Jvm.Cond.code ({ cls := "SeenInOrderOfAge", name := "gladWith", desc := "(II)I" } : Jvm.MethodName) prog_1_method_46_code (4 : Nat) (Option.some Jvm.ClassFile.FieldType.int)) ∈ lw_all := lw_g (lw_at lw_m6 22 rfl) rfl
theorem q1305 : (Jvm.Cond.methodLink "SeenInOrderOfAge" (285 : Nat) ({ cls := "SeenInOrderOfAge", name := "tried", desc := "()LSeenInOrderOfAge$Window;" } : Jvm.MethodName)) ∈ lw_all := lw_g (lw_at lw_m6 23 rfl) rfl
theorem q1306 : (Jvm.Cond.privateMethod ({ cls := "SeenInOrderOfAge", name := "tried", desc := "()LSeenInOrderOfAge$Window;" } : Jvm.MethodName)) ∈ lw_tbl := lw_at lw_m6 24 rfl
theorem q1307 : (Jvm.Cond.instanceMethod ({ cls := "SeenInOrderOfAge", name := "tried", desc := "()LSeenInOrderOfAge$Window;" } : Jvm.MethodName)) ∈ lw_all := lw_g (lw_at lw_m6 25 rfl) rfl
theorem q1308 : (Jvm.Cond.code ({ cls := "SeenInOrderOfAge", name := "tried", desc := "()LSeenInOrderOfAge$Window;" } : Jvm.MethodName) prog_1_method_10_code (1 : Nat) (Option.some (Jvm.ClassFile.FieldType.object "SeenInOrderOfAge$Window"))) ∈ lw_all := lw_g (lw_at lw_m6 26 rfl) rfl
theorem q1309 : (Jvm.Cond.methodLink "SeenInOrderOfAge" (84 : Nat) ({ cls := "SeenInOrderOfAge$Window", name := "becomes", desc := "(LSeenInOrderOfAge$Window;)LSeenInOrderOfAge$Window;" } : Jvm.MethodName)) ∈ lw_all := lw_g (lw_at lw_m6 27 rfl) rfl
theorem q1311 : (Jvm.Cond.instanceMethod ({ cls := "SeenInOrderOfAge", name := "bestPair", desc := "()I" } : Jvm.MethodName)) ∈ lw_all := lw_g (lw_at lw_m6 29 rfl) rfl
theorem q1312 : (Jvm.Cond.selects "SeenInOrderOfAge" ({ cls := "SeenInOrderOfAge", name := "bestPair", desc := "()I" } : Jvm.MethodName) ({ cls := "SeenInOrderOfAge", name := "bestPair", desc := "()I" } : Jvm.MethodName)) ∈ lw_all := lw_g (lw_at lw_m6 30 rfl) rfl
theorem q1313 : (Jvm.Cond.code ({ cls := "SeenInOrderOfAge", name := "bestPair", desc := "()I" } : Jvm.MethodName) prog_1_method_48_code (6 : Nat) (Option.some Jvm.ClassFile.FieldType.int)) ∈ lw_all := lw_g (lw_at lw_m6 31 rfl) rfl
theorem q1315 : (Jvm.Cond.instanceMethod ({ cls := "SeenInOrderOfAge", name := "oldest", desc := "(I)I" } : Jvm.MethodName)) ∈ lw_all := lw_g (lw_at lw_m6 33 rfl) rfl
theorem q1316 : (Jvm.Cond.selects "SeenInOrderOfAge" ({ cls := "SeenInOrderOfAge", name := "oldest", desc := "(I)I" } : Jvm.MethodName) ({ cls := "SeenInOrderOfAge", name := "oldest", desc := "(I)I" } : Jvm.MethodName)) ∈ lw_all := lw_g (lw_at lw_m6 34 rfl) rfl
theorem q1317 : (Jvm.Cond.code ({ cls := "SeenInOrderOfAge", name := "oldest", desc := "(I)I" } : Jvm.MethodName) prog_1_method_49_code (4 : Nat) (Option.some Jvm.ClassFile.FieldType.int)) ∈ lw_all := lw_g (lw_at lw_m6 35 rfl) rfl
theorem q1319 : (Jvm.Cond.instanceMethod ({ cls := "SeenInOrderOfAge", name := "twice", desc := "(II)I" } : Jvm.MethodName)) ∈ lw_all := lw_g (lw_at lw_m6 37 rfl) rfl
theorem q1320 : (Jvm.Cond.selects "SeenInOrderOfAge" ({ cls := "SeenInOrderOfAge", name := "twice", desc := "(II)I" } : Jvm.MethodName) ({ cls := "SeenInOrderOfAge", name := "twice", desc := "(II)I" } : Jvm.MethodName)) ∈ lw_all := lw_g (lw_at lw_m6 38 rfl) rfl
theorem q1321 : (Jvm.Cond.code ({ cls := "SeenInOrderOfAge", name := "twice", desc := "(II)I" } : Jvm.MethodName) prog_1_method_50_code (3 : Nat) (Option.some Jvm.ClassFile.FieldType.int)) ∈ lw_all := lw_g (lw_at lw_m6 39 rfl) rfl
theorem q1322 : (Jvm.Cond.methodLink "SeenInOrderOfAge" (291 : Nat) ({ cls := "SeenInOrderOfAge$Panes", name := "becomes", desc := "(LSeenInOrderOfAge$Panes;)LSeenInOrderOfAge$Panes;" } : Jvm.MethodName)) ∈ lw_all := lw_g (lw_at lw_m6 40 rfl) rfl
theorem q1323 : (Jvm.Cond.methodLink "SeenInOrderOfAge" (294 : Nat) ({ cls := "SeenInOrderOfAge$Evening", name := "from", desc := "(LSeenInOrderOfAge$Window;LSeenInOrderOfAge$Panes;I)LSeenInOrderOfAge$Evening;" } : Jvm.MethodName)) ∈ lw_all := lw_g (lw_at lw_m6 41 rfl) rfl
theorem q1325 : (Jvm.Cond.instanceMethod ({ cls := "SeenInOrderOfAge", name := "unlike", desc := "(I)I" } : Jvm.MethodName)) ∈ lw_all := lw_g (lw_at lw_m6 43 rfl) rfl
theorem q1326 : (Jvm.Cond.selects "SeenInOrderOfAge" ({ cls := "SeenInOrderOfAge", name := "unlike", desc := "(I)I" } : Jvm.MethodName) ({ cls := "SeenInOrderOfAge", name := "unlike", desc := "(I)I" } : Jvm.MethodName)) ∈ lw_all := lw_g (lw_at lw_m6 44 rfl) rfl
theorem q1327 : (Jvm.Cond.code ({ cls := "SeenInOrderOfAge", name := "unlike", desc := "(I)I" } : Jvm.MethodName) prog_1_method_51_code (4 : Nat) (Option.some Jvm.ClassFile.FieldType.int)) ∈ lw_all := lw_g (lw_at lw_m6 45 rfl) rfl
theorem q1328 : (Jvm.Cond.methodLink "SeenInOrderOfAge" (298 : Nat) ({ cls := "SeenInOrderOfAge$Panes", name := "many", desc := "(I)I" } : Jvm.MethodName)) ∈ lw_all := lw_g (lw_at lw_m6 46 rfl) rfl
theorem q1330 : (Jvm.Cond.instanceMethod ({ cls := "SeenInOrderOfAge", name := "setOut", desc := "(II)I" } : Jvm.MethodName)) ∈ lw_all := lw_g (lw_at lw_m6 48 rfl) rfl
theorem q1331 : (Jvm.Cond.selects "SeenInOrderOfAge" ({ cls := "SeenInOrderOfAge", name := "setOut", desc := "(II)I" } : Jvm.MethodName) ({ cls := "SeenInOrderOfAge", name := "setOut", desc := "(II)I" } : Jvm.MethodName)) ∈ lw_all := lw_g (lw_at lw_m6 49 rfl) rfl
theorem q1332 : (Jvm.Cond.code ({ cls := "SeenInOrderOfAge", name := "setOut", desc := "(II)I" } : Jvm.MethodName) prog_1_method_56_code (4 : Nat) (Option.some Jvm.ClassFile.FieldType.int)) ∈ lw_all := lw_g (lw_at lw_m6 50 rfl) rfl
theorem q1333 : (Jvm.Cond.methodLink "SeenInOrderOfAge" (310 : Nat) ({ cls := "SeenInOrderOfAge", name := "fewestOut", desc := "(I)I" } : Jvm.MethodName)) ∈ lw_all := lw_g (lw_at lw_m6 51 rfl) rfl
theorem q1334 : (Jvm.Cond.privateMethod ({ cls := "SeenInOrderOfAge", name := "fewestOut", desc := "(I)I" } : Jvm.MethodName)) ∈ lw_tbl := lw_at lw_m6 52 rfl
theorem q1335 : (Jvm.Cond.instanceMethod ({ cls := "SeenInOrderOfAge", name := "fewestOut", desc := "(I)I" } : Jvm.MethodName)) ∈ lw_all := lw_g (lw_at lw_m6 53 rfl) rfl
theorem q1336 : (Jvm.Cond.code ({ cls := "SeenInOrderOfAge", name := "fewestOut", desc := "(I)I" } : Jvm.MethodName) prog_1_method_55_code (3 : Nat) (Option.some Jvm.ClassFile.FieldType.int)) ∈ lw_all := lw_g (lw_at lw_m6 54 rfl) rfl
theorem q1337 : (Jvm.Cond.methodLink "SeenInOrderOfAge" (307 : Nat) ({ cls := "SeenInOrderOfAge", name := "makesGlad", desc := "(III)Z" } : Jvm.MethodName)) ∈ lw_all := lw_g (lw_at lw_m6 55 rfl) rfl
theorem q1338 : (Jvm.Cond.privateMethod ({ cls := "SeenInOrderOfAge", name := "makesGlad", desc := "(III)Z" } : Jvm.MethodName)) ∈ lw_tbl := lw_at lw_m6 56 rfl
theorem q1339 : (Jvm.Cond.instanceMethod ({ cls := "SeenInOrderOfAge", name := "makesGlad", desc := "(III)Z" } : Jvm.MethodName)) ∈ lw_all := lw_g (lw_at lw_m6 57 rfl) rfl
theorem q1340 : (Jvm.Cond.code ({ cls := "SeenInOrderOfAge", name := "makesGlad", desc := "(III)Z" } : Jvm.MethodName) prog_1_method_54_code (6 : Nat) (Option.some Jvm.ClassFile.FieldType.boolean)) ∈ lw_all := lw_g (lw_at lw_m6 58 rfl) rfl
theorem q1341 : (Jvm.Cond.methodLink "SeenInOrderOfAge" (300 : Nat) ({ cls := "SeenInOrderOfAge", name := "firstEmpty", desc := "(LSeenInOrderOfAge$Panes;)I" } : Jvm.MethodName)) ∈ lw_all := lw_g (lw_at lw_m6 59 rfl) rfl
theorem q1342 : (Jvm.Cond.privateMethod ({ cls := "SeenInOrderOfAge", name := "firstEmpty", desc := "(LSeenInOrderOfAge$Panes;)I" } : Jvm.MethodName)) ∈ lw_tbl := lw_at lw_m6 60 rfl
theorem q1343 : (Jvm.Cond.instanceMethod ({ cls := "SeenInOrderOfAge", name := "firstEmpty", desc := "(LSeenInOrderOfAge$Panes;)I" } : Jvm.MethodName)) ∈ lw_all := lw_g (lw_at lw_m6 61 rfl) rfl
theorem q1344 : (Jvm.Cond.code ({ cls := "SeenInOrderOfAge", name := "firstEmpty", desc := "(LSeenInOrderOfAge$Panes;)I" } : Jvm.MethodName) prog_1_method_52_code (3 : Nat) (Option.some Jvm.ClassFile.FieldType.int)) ∈ lw_all := lw_g (lw_at lw_m6 62 rfl) rfl
theorem q1345 : (Jvm.Cond.methodLink "SeenInOrderOfAge" (304 : Nat) ({ cls := "SeenInOrderOfAge", name := "wanted", desc := "(I)I" } : Jvm.MethodName)) ∈ lw_all := lw_g (lw_at lw_m6 63 rfl) rfl
theorem q1346 : (Jvm.Cond.privateMethod ({ cls := "SeenInOrderOfAge", name := "wanted", desc := "(I)I" } : Jvm.MethodName)) ∈ lw_tbl := lw_at lw_m6 64 rfl
theorem q1347 : (Jvm.Cond.instanceMethod ({ cls := "SeenInOrderOfAge", name := "wanted", desc := "(I)I" } : Jvm.MethodName)) ∈ lw_all := lw_g (lw_at lw_m6 65 rfl) rfl
theorem q1348 : (Jvm.Cond.code ({ cls := "SeenInOrderOfAge", name := "wanted", desc := "(I)I" } : Jvm.MethodName) prog_1_method_53_code (4 : Nat) (Option.some Jvm.ClassFile.FieldType.int)) ∈ lw_all := lw_g (lw_at lw_m6 66 rfl) rfl
theorem q1350 : (Jvm.Cond.instanceMethod ({ cls := "SeenInOrderOfAge", name := "who", desc := "(II)I" } : Jvm.MethodName)) ∈ lw_all := lw_g (lw_at lw_m6 68 rfl) rfl
theorem q1351 : (Jvm.Cond.selects "SeenInOrderOfAge" ({ cls := "SeenInOrderOfAge", name := "who", desc := "(II)I" } : Jvm.MethodName) ({ cls := "SeenInOrderOfAge", name := "who", desc := "(II)I" } : Jvm.MethodName)) ∈ lw_all := lw_g (lw_at lw_m6 69 rfl) rfl
theorem q1352 : (Jvm.Cond.code ({ cls := "SeenInOrderOfAge", name := "who", desc := "(II)I" } : Jvm.MethodName) prog_1_method_57_code (8 : Nat) (Option.some Jvm.ClassFile.FieldType.int)) ∈ lw_all := lw_g (lw_at lw_m6 70 rfl) rfl
theorem q1354 : (Jvm.Cond.instanceMethod ({ cls := "SeenInOrderOfAge", name := "kinds", desc := "(IIII)I" } : Jvm.MethodName)) ∈ lw_all := lw_g (lw_at lw_m6 72 rfl) rfl
theorem q1355 : (Jvm.Cond.selects "SeenInOrderOfAge" ({ cls := "SeenInOrderOfAge", name := "kinds", desc := "(IIII)I" } : Jvm.MethodName) ({ cls := "SeenInOrderOfAge", name := "kinds", desc := "(IIII)I" } : Jvm.MethodName)) ∈ lw_all := lw_g (lw_at lw_m6 73 rfl) rfl
theorem q1356 : (Jvm.Cond.code ({ cls := "SeenInOrderOfAge", name := "kinds", desc := "(IIII)I" } : Jvm.MethodName) prog_1_method_59_code (10 : Nat) (Option.some Jvm.ClassFile.FieldType.int)) ∈ lw_all := lw_g (lw_at lw_m6 74 rfl) rfl
theorem q1357 : (Jvm.Cond.methodLink "SeenInOrderOfAge" (317 : Nat) ({ cls := "SeenInOrderOfAge", name := "wouldTake", desc := "(IIIII)Z" } : Jvm.MethodName)) ∈ lw_all := lw_g (lw_at lw_m6 75 rfl) rfl
theorem q1358 : (Jvm.Cond.privateMethod ({ cls := "SeenInOrderOfAge", name := "wouldTake", desc := "(IIIII)Z" } : Jvm.MethodName)) ∈ lw_tbl := lw_at lw_m6 76 rfl
theorem q1359 : (Jvm.Cond.instanceMethod ({ cls := "SeenInOrderOfAge", name := "wouldTake", desc := "(IIIII)Z" } : Jvm.MethodName)) ∈ lw_all := lw_g (lw_at lw_m6 77 rfl) rfl
theorem q1360 : (Jvm.Cond.code ({ cls := "SeenInOrderOfAge", name := "wouldTake", desc := "(IIIII)Z" } : Jvm.MethodName) prog_1_method_58_code (7 : Nat) (Option.some Jvm.ClassFile.FieldType.boolean)) ∈ lw_all := lw_g (lw_at lw_m6 78 rfl) rfl
theorem q1361 : (Jvm.Cond.methodLink "SeenInOrderOfAge" (313 : Nat) ({ cls := "SeenInOrderOfAge", name := "made", desc := "(III)LSeenInOrderOfAge$Looker;" } : Jvm.MethodName)) ∈ lw_all := lw_g (lw_at lw_m6 79 rfl) rfl
theorem q1363 : (Jvm.Cond.instanceMethod ({ cls := "SeenInOrderOfAge", name := "odds", desc := "(I)I" } : Jvm.MethodName)) ∈ lw_all := lw_g (lw_at lw_m6 81 rfl) rfl
theorem q1364 : (Jvm.Cond.selects "SeenInOrderOfAge" ({ cls := "SeenInOrderOfAge", name := "odds", desc := "(I)I" } : Jvm.MethodName) ({ cls := "SeenInOrderOfAge", name := "odds", desc := "(I)I" } : Jvm.MethodName)) ∈ lw_all := lw_g (lw_at lw_m6 82 rfl) rfl
theorem q1365 : (Jvm.Cond.code ({ cls := "SeenInOrderOfAge", name := "odds", desc := "(I)I" } : Jvm.MethodName) prog_1_method_63_code (5 : Nat) (Option.some Jvm.ClassFile.FieldType.int)) ∈ lw_all := lw_g (lw_at lw_m6 83 rfl) rfl
theorem q1366 : (Jvm.Cond.methodLink "SeenInOrderOfAge" (329 : Nat) ({ cls := "SeenInOrderOfAge", name := "ways", desc := "(II)J" } : Jvm.MethodName)) ∈ lw_all := lw_g (lw_at lw_m6 84 rfl) rfl
theorem q1367 : (Jvm.Cond.privateMethod ({ cls := "SeenInOrderOfAge", name := "ways", desc := "(II)J" } : Jvm.MethodName)) ∈ lw_tbl := lw_at lw_m6 85 rfl
theorem q1368 : (Jvm.Cond.instanceMethod ({ cls := "SeenInOrderOfAge", name := "ways", desc := "(II)J" } : Jvm.MethodName)) ∈ lw_all := lw_g (lw_at lw_m6 86 rfl) rfl
theorem q1369 : (Jvm.Cond.code ({ cls := "SeenInOrderOfAge", name := "ways", desc := "(II)J" } : Jvm.MethodName) prog_1_method_60_code (6 : Nat) (Option.some Jvm.ClassFile.FieldType.long)) ∈ lw_all := lw_g (lw_at lw_m6 87 rfl) rfl
theorem q1370 : (Jvm.Cond.methodLink "SeenInOrderOfAge" (333 : Nat) ({ cls := "SeenInOrderOfAge", name := "ofMillion", desc := "(JI)I" } : Jvm.MethodName)) ∈ lw_all := lw_g (lw_at lw_m6 88 rfl) rfl
theorem q1371 : (Jvm.Cond.privateMethod ({ cls := "SeenInOrderOfAge", name := "ofMillion", desc := "(JI)I" } : Jvm.MethodName)) ∈ lw_tbl := lw_at lw_m6 89 rfl
theorem q1372 : (Jvm.Cond.instanceMethod ({ cls := "SeenInOrderOfAge", name := "ofMillion", desc := "(JI)I" } : Jvm.MethodName)) ∈ lw_all := lw_g (lw_at lw_m6 90 rfl) rfl
theorem q1373 : (Jvm.Cond.code ({ cls := "SeenInOrderOfAge", name := "ofMillion", desc := "(JI)I" } : Jvm.MethodName) prog_1_method_62_code (4 : Nat) (Option.some Jvm.ClassFile.FieldType.int)) ∈ lw_all := lw_g (lw_at lw_m6 91 rfl) rfl
theorem q1374 : (Jvm.Cond.constantLong "SeenInOrderOfAge" (323 : Nat) (1000000 : Int64)) ∈ lw_all := lw_g (lw_at lw_m6 92 rfl) rfl
theorem q1375 : (Jvm.Cond.methodLink "SeenInOrderOfAge" (325 : Nat) ({ cls := "SeenInOrderOfAge", name := "all", desc := "(I)J" } : Jvm.MethodName)) ∈ lw_all := lw_g (lw_at lw_m6 93 rfl) rfl
theorem q1376 : (Jvm.Cond.static ({ cls := "SeenInOrderOfAge", name := "all", desc := "(I)J" } : Jvm.MethodName)) ∈ lw_all := lw_g (lw_at lw_m6 94 rfl) rfl
theorem q1377 : (Jvm.Cond.code ({ cls := "SeenInOrderOfAge", name := "all", desc := "(I)J" } : Jvm.MethodName) prog_1_method_61_code (4 : Nat) (Option.some Jvm.ClassFile.FieldType.long)) ∈ lw_all := lw_g (lw_at lw_m6 95 rfl) rfl
theorem q1378 : (Jvm.Cond.constantLong "SeenInOrderOfAge" (321 : Nat) (12 : Int64)) ∈ lw_all := lw_g (lw_at lw_m6 96 rfl) rfl
theorem q1380 : (Jvm.Cond.instanceMethod ({ cls := "SeenInOrderOfAge", name := "likely", desc := "(I)I" } : Jvm.MethodName)) ∈ lw_all := lw_g (lw_at lw_m6 98 rfl) rfl
theorem q1381 : (Jvm.Cond.selects "SeenInOrderOfAge" ({ cls := "SeenInOrderOfAge", name := "likely", desc := "(I)I" } : Jvm.MethodName) ({ cls := "SeenInOrderOfAge", name := "likely", desc := "(I)I" } : Jvm.MethodName)) ∈ lw_all := lw_g (lw_at lw_m6 99 rfl) rfl
theorem q1382 : (Jvm.Cond.code ({ cls := "SeenInOrderOfAge", name := "likely", desc := "(I)I" } : Jvm.MethodName) prog_1_method_64_code (6 : Nat) (Option.some Jvm.ClassFile.FieldType.int)) ∈ lw_all := lw_g (lw_at lw_m6 100 rfl) rfl
theorem q1384 : (Jvm.Cond.instanceMethod ({ cls := "SeenInOrderOfAge", name := "gladOdds", desc := "(I)I" } : Jvm.MethodName)) ∈ lw_all := lw_g (lw_at lw_m6 102 rfl) rfl
theorem q1385 : (Jvm.Cond.selects "SeenInOrderOfAge" ({ cls := "SeenInOrderOfAge", name := "gladOdds", desc := "(I)I" } : Jvm.MethodName) ({ cls := "SeenInOrderOfAge", name := "gladOdds", desc := "(I)I" } : Jvm.MethodName)) ∈ lw_all := lw_g (lw_at lw_m6 103 rfl) rfl
theorem q1386 : (Jvm.Cond.code ({ cls := "SeenInOrderOfAge", name := "gladOdds", desc := "(I)I" } : Jvm.MethodName) prog_1_method_65_code (5 : Nat) (Option.some Jvm.ClassFile.FieldType.int)) ∈ lw_all := lw_g (lw_at lw_m6 104 rfl) rfl
theorem q1388 : (Jvm.Cond.instanceMethod ({ cls := "SeenInOrderOfAge", name := "meanLeft", desc := "()I" } : Jvm.MethodName)) ∈ lw_all := lw_g (lw_at lw_m6 106 rfl) rfl
theorem q1389 : (Jvm.Cond.selects "SeenInOrderOfAge" ({ cls := "SeenInOrderOfAge", name := "meanLeft", desc := "()I" } : Jvm.MethodName) ({ cls := "SeenInOrderOfAge", name := "meanLeft", desc := "()I" } : Jvm.MethodName)) ∈ lw_all := lw_g (lw_at lw_m6 107 rfl) rfl
theorem q1390 : (Jvm.Cond.code ({ cls := "SeenInOrderOfAge", name := "meanLeft", desc := "()I" } : Jvm.MethodName) prog_1_method_66_code (4 : Nat) (Option.some Jvm.ClassFile.FieldType.int)) ∈ lw_all := lw_g (lw_at lw_m6 108 rfl) rfl
theorem q1391 : (Jvm.Cond.constantLong "SeenInOrderOfAge" (337 : Nat) (1000 : Int64)) ∈ lw_all := lw_g (lw_at lw_m6 109 rfl) rfl
theorem q1393 : (Jvm.Cond.instanceMethod ({ cls := "SeenInOrderOfAge", name := "sorts", desc := "(II)I" } : Jvm.MethodName)) ∈ lw_all := lw_g (lw_at lw_m6 111 rfl) rfl
theorem q1394 : (Jvm.Cond.selects "SeenInOrderOfAge" ({ cls := "SeenInOrderOfAge", name := "sorts", desc := "(II)I" } : Jvm.MethodName) ({ cls := "SeenInOrderOfAge", name := "sorts", desc := "(II)I" } : Jvm.MethodName)) ∈ lw_all := lw_g (lw_at lw_m6 112 rfl) rfl
theorem q1395 : (Jvm.Cond.code ({ cls := "SeenInOrderOfAge", name := "sorts", desc := "(II)I" } : Jvm.MethodName) prog_1_method_67_code (6 : Nat) (Option.some Jvm.ClassFile.FieldType.int)) ∈ lw_all := lw_g (lw_at lw_m6 113 rfl) rfl
theorem q1396 : (Jvm.Cond.methodLink "SeenInOrderOfAge" (339 : Nat) ({ cls := "SeenInOrderOfAge$Window", name := "liked", desc := "(I)I" } : Jvm.MethodName)) ∈ lw_all := lw_g (lw_at lw_m6 114 rfl) rfl
theorem q1398 : (Jvm.Cond.instanceMethod ({ cls := "SeenInOrderOfAge", name := "rare", desc := "(I)I" } : Jvm.MethodName)) ∈ lw_all := lw_g (lw_at lw_m6 116 rfl) rfl
theorem q1399 : (Jvm.Cond.selects "SeenInOrderOfAge" ({ cls := "SeenInOrderOfAge", name := "rare", desc := "(I)I" } : Jvm.MethodName) ({ cls := "SeenInOrderOfAge", name := "rare", desc := "(I)I" } : Jvm.MethodName)) ∈ lw_all := lw_g (lw_at lw_m6 117 rfl) rfl
theorem q1400 : (Jvm.Cond.code ({ cls := "SeenInOrderOfAge", name := "rare", desc := "(I)I" } : Jvm.MethodName) prog_1_method_68_code (7 : Nat) (Option.some Jvm.ClassFile.FieldType.int)) ∈ lw_all := lw_g (lw_at lw_m6 118 rfl) rfl
theorem q1402 : (Jvm.Cond.instanceMethod ({ cls := "SeenInOrderOfAge", name := "first", desc := "(I)I" } : Jvm.MethodName)) ∈ lw_all := lw_g (lw_at lw_m6 120 rfl) rfl
theorem q1403 : (Jvm.Cond.selects "SeenInOrderOfAge" ({ cls := "SeenInOrderOfAge", name := "first", desc := "(I)I" } : Jvm.MethodName) ({ cls := "SeenInOrderOfAge", name := "first", desc := "(I)I" } : Jvm.MethodName)) ∈ lw_all := lw_g (lw_at lw_m6 121 rfl) rfl
theorem q1404 : (Jvm.Cond.code ({ cls := "SeenInOrderOfAge", name := "first", desc := "(I)I" } : Jvm.MethodName) prog_1_method_70_code (4 : Nat) (Option.some Jvm.ClassFile.FieldType.int)) ∈ lw_all := lw_g (lw_at lw_m6 122 rfl) rfl
theorem q1405 : (Jvm.Cond.methodLink "SeenInOrderOfAge" (344 : Nat) ({ cls := "SeenInOrderOfAge", name := "of", desc := "(II)I" } : Jvm.MethodName)) ∈ lw_all := lw_g (lw_at lw_m6 123 rfl) rfl
theorem q1406 : (Jvm.Cond.privateMethod ({ cls := "SeenInOrderOfAge", name := "of", desc := "(II)I" } : Jvm.MethodName)) ∈ lw_tbl := lw_at lw_m6 124 rfl
theorem q1407 : (Jvm.Cond.instanceMethod ({ cls := "SeenInOrderOfAge", name := "of", desc := "(II)I" } : Jvm.MethodName)) ∈ lw_all := lw_g (lw_at lw_m6 125 rfl) rfl
theorem q1408 : (Jvm.Cond.code ({ cls := "SeenInOrderOfAge", name := "of", desc := "(II)I" } : Jvm.MethodName) prog_1_method_69_code (3 : Nat) (Option.some Jvm.ClassFile.FieldType.int)) ∈ lw_all := lw_g (lw_at lw_m6 126 rfl) rfl
theorem q1409 : (Jvm.Cond.methodLink "SeenInOrderOfAge" (342 : Nat) ({ cls := "SeenInOrderOfAge$Window", name := "things", desc := "(I)I" } : Jvm.MethodName)) ∈ lw_all := lw_g (lw_at lw_m6 127 rfl) rfl
theorem q1414 : (Jvm.Cond.instanceMethod ({ cls := "SeenInOrderOfAge", name := "next", desc := "(I)I" } : Jvm.MethodName)) ∈ lw_all := lw_g (lw_at lw_m6 132 rfl) rfl
theorem q1415 : (Jvm.Cond.selects "SeenInOrderOfAge" ({ cls := "SeenInOrderOfAge", name := "next", desc := "(I)I" } : Jvm.MethodName) ({ cls := "SeenInOrderOfAge", name := "next", desc := "(I)I" } : Jvm.MethodName)) ∈ lw_all := lw_g (lw_at lw_m6 133 rfl) rfl
theorem q1416 : (Jvm.Cond.code ({ cls := "SeenInOrderOfAge", name := "next", desc := "(I)I" } : Jvm.MethodName) prog_1_method_76_code (2 : Nat) (Option.some Jvm.ClassFile.FieldType.int)) ∈ lw_all := lw_g (lw_at lw_m6 134 rfl) rfl
theorem q1417 : (Jvm.Cond.methodLink "SeenInOrderOfAge" (355 : Nat) ({ cls := "SeenInOrderOfAge", name := "swaps", desc := "()V" } : Jvm.MethodName)) ∈ lw_all := lw_g (lw_at lw_m6 135 rfl) rfl
theorem q1418 : (Jvm.Cond.privateMethod ({ cls := "SeenInOrderOfAge", name := "swaps", desc := "()V" } : Jvm.MethodName)) ∈ lw_tbl := lw_at lw_m6 136 rfl
theorem q1419 : (Jvm.Cond.instanceMethod ({ cls := "SeenInOrderOfAge", name := "swaps", desc := "()V" } : Jvm.MethodName)) ∈ lw_all := lw_g (lw_at lw_m6 137 rfl) rfl
theorem q1420 : (Jvm.Cond.code ({ cls := "SeenInOrderOfAge", name := "swaps", desc := "()V" } : Jvm.MethodName) prog_1_method_74_code (4 : Nat) (Option.none : Option Jvm.ClassFile.FieldType)) ∈ lw_all := lw_g (lw_at lw_m6 138 rfl) rfl
theorem q1421 : (Jvm.Cond.methodLink "SeenInOrderOfAge" (349 : Nat) ({ cls := "SeenInOrderOfAge", name := "wishOf", desc := "(II)I" } : Jvm.MethodName)) ∈ lw_all := lw_g (lw_at lw_m6 139 rfl) rfl
theorem q1422 : (Jvm.Cond.privateMethod ({ cls := "SeenInOrderOfAge", name := "wishOf", desc := "(II)I" } : Jvm.MethodName)) ∈ lw_tbl := lw_at lw_m6 140 rfl
theorem q1423 : (Jvm.Cond.instanceMethod ({ cls := "SeenInOrderOfAge", name := "wishOf", desc := "(II)I" } : Jvm.MethodName)) ∈ lw_all := lw_g (lw_at lw_m6 141 rfl) rfl
theorem q1424 : (Jvm.Cond.code ({ cls := "SeenInOrderOfAge", name := "wishOf", desc := "(II)I" } : Jvm.MethodName) prog_1_method_71_code (5 : Nat) (Option.some Jvm.ClassFile.FieldType.int)) ∈ lw_all := lw_g (lw_at lw_m6 142 rfl) rfl
theorem q1425 : (Jvm.Cond.methodLink "SeenInOrderOfAge" (346 : Nat) ({ cls := "SeenInOrderOfAge", name := "bringer", desc := "(II)I" } : Jvm.MethodName)) ∈ lw_all := lw_g (lw_at lw_m6 143 rfl) rfl
theorem q1426 : (Jvm.Cond.privateMethod ({ cls := "SeenInOrderOfAge", name := "bringer", desc := "(II)I" } : Jvm.MethodName)) ∈ lw_tbl := lw_at lw_m6 144 rfl
theorem q1427 : (Jvm.Cond.instanceMethod ({ cls := "SeenInOrderOfAge", name := "bringer", desc := "(II)I" } : Jvm.MethodName)) ∈ lw_all := lw_g (lw_at lw_m6 145 rfl) rfl
theorem q1428 : (Jvm.Cond.code ({ cls := "SeenInOrderOfAge", name := "bringer", desc := "(II)I" } : Jvm.MethodName) prog_1_method_72_code (4 : Nat) (Option.some Jvm.ClassFile.FieldType.int)) ∈ lw_all := lw_g (lw_at lw_m6 146 rfl) rfl
theorem q1429 : (Jvm.Cond.methodLink "SeenInOrderOfAge" (352 : Nat) ({ cls := "SeenInOrderOfAge", name := "isRing", desc := "(I)Z" } : Jvm.MethodName)) ∈ lw_all := lw_g (lw_at lw_m6 147 rfl) rfl
theorem q1430 : (Jvm.Cond.privateMethod ({ cls := "SeenInOrderOfAge", name := "isRing", desc := "(I)Z" } : Jvm.MethodName)) ∈ lw_tbl := lw_at lw_m6 148 rfl
theorem q1431 : (Jvm.Cond.instanceMethod ({ cls := "SeenInOrderOfAge", name := "isRing", desc := "(I)Z" } : Jvm.MethodName)) ∈ lw_all := lw_g (lw_at lw_m6 149 rfl) rfl
theorem q1432 : (Jvm.Cond.code ({ cls := "SeenInOrderOfAge", name := "isRing", desc := "(I)Z" } : Jvm.MethodName) prog_1_method_73_code (4 : Nat) (Option.some Jvm.ClassFile.FieldType.boolean)) ∈ lw_all := lw_g (lw_at lw_m6 150 rfl) rfl
theorem q1434 : (Jvm.Cond.instanceMethod ({ cls := "SeenInOrderOfAge", name := "swapped", desc := "()I" } : Jvm.MethodName)) ∈ lw_all := lw_g (lw_at lw_m6 152 rfl) rfl
theorem q1435 : (Jvm.Cond.selects "SeenInOrderOfAge" ({ cls := "SeenInOrderOfAge", name := "swapped", desc := "()I" } : Jvm.MethodName) ({ cls := "SeenInOrderOfAge", name := "swapped", desc := "()I" } : Jvm.MethodName)) ∈ lw_all := lw_g (lw_at lw_m6 153 rfl) rfl
theorem q1436 : (Jvm.Cond.code ({ cls := "SeenInOrderOfAge", name := "swapped", desc := "()I" } : Jvm.MethodName) prog_1_method_77_code (1 : Nat) (Option.some Jvm.ClassFile.FieldType.int)) ∈ lw_all := lw_g (lw_at lw_m6 154 rfl) rfl
theorem q1437 : (Jvm.Cond.methodLink "SeenInOrderOfAge" (358 : Nat) ({ cls := "SeenInOrderOfAge", name := "manySwapped", desc := "()I" } : Jvm.MethodName)) ∈ lw_all := lw_g (lw_at lw_m6 155 rfl) rfl
theorem q1438 : (Jvm.Cond.privateMethod ({ cls := "SeenInOrderOfAge", name := "manySwapped", desc := "()I" } : Jvm.MethodName)) ∈ lw_tbl := lw_at lw_m6 156 rfl
theorem q1439 : (Jvm.Cond.instanceMethod ({ cls := "SeenInOrderOfAge", name := "manySwapped", desc := "()I" } : Jvm.MethodName)) ∈ lw_all := lw_g (lw_at lw_m6 157 rfl) rfl
theorem q1440 : (Jvm.Cond.code ({ cls := "SeenInOrderOfAge", name := "manySwapped", desc := "()I" } : Jvm.MethodName) prog_1_method_75_code (3 : Nat) (Option.some Jvm.ClassFile.FieldType.int)) ∈ lw_all := lw_g (lw_at lw_m6 158 rfl) rfl
theorem q1442 : (Jvm.Cond.instanceMethod ({ cls := "SeenInOrderOfAge", name := "judge", desc := "(II)I" } : Jvm.MethodName)) ∈ lw_all := lw_g (lw_at lw_m6 160 rfl) rfl
theorem q1443 : (Jvm.Cond.selects "SeenInOrderOfAge" ({ cls := "SeenInOrderOfAge", name := "judge", desc := "(II)I" } : Jvm.MethodName) ({ cls := "SeenInOrderOfAge", name := "judge", desc := "(II)I" } : Jvm.MethodName)) ∈ lw_all := lw_g (lw_at lw_m6 161 rfl) rfl
theorem q1444 : (Jvm.Cond.codeWith ({ cls := "SeenInOrderOfAge", name := "judge", desc := "(II)I" } : Jvm.MethodName) prog_1_method_81_code (4 : Nat) (Option.some Jvm.ClassFile.FieldType.int) [((0 : Nat), (10 : Nat), (11 : Nat), (119 : Nat))]) ∈ lw_all := lw_g (lw_at lw_m6 162 rfl) rfl
theorem q1445 : (Jvm.Cond.methodLink "SeenInOrderOfAge" (371 : Nat) ({ cls := "SeenInOrderOfAge", name := "toldIn", desc := "(II)[J" } : Jvm.MethodName)) ∈ lw_all := lw_g (lw_at lw_m6 163 rfl) rfl
theorem q1446 : (Jvm.Cond.privateMethod ({ cls := "SeenInOrderOfAge", name := "toldIn", desc := "(II)[J" } : Jvm.MethodName)) ∈ lw_tbl := lw_at lw_m6 164 rfl
theorem q1447 : (Jvm.Cond.instanceMethod ({ cls := "SeenInOrderOfAge", name := "toldIn", desc := "(II)[J" } : Jvm.MethodName)) ∈ lw_all := lw_g (lw_at lw_m6 165 rfl) rfl
theorem q1448 : (Jvm.Cond.codeWith ({ cls := "SeenInOrderOfAge", name := "toldIn", desc := "(II)[J" } : Jvm.MethodName) prog_1_method_78_code (6 : Nat) (Option.some (Jvm.ClassFile.FieldType.array Jvm.ClassFile.FieldType.long)) [((40 : Nat), (68 : Nat), (71 : Nat), (136 : Nat))]) ∈ lw_all := lw_g (lw_at lw_m6 166 rfl) rfl
theorem q1449 : (Jvm.Cond.methodLink "SeenInOrderOfAge" (375 : Nat) ({ cls := "SeenInOrderOfAge", name := "wrongIn", desc := "([J)I" } : Jvm.MethodName)) ∈ lw_all := lw_g (lw_at lw_m6 167 rfl) rfl
theorem q1450 : (Jvm.Cond.privateMethod ({ cls := "SeenInOrderOfAge", name := "wrongIn", desc := "([J)I" } : Jvm.MethodName)) ∈ lw_tbl := lw_at lw_m6 168 rfl
theorem q1451 : (Jvm.Cond.instanceMethod ({ cls := "SeenInOrderOfAge", name := "wrongIn", desc := "([J)I" } : Jvm.MethodName)) ∈ lw_all := lw_g (lw_at lw_m6 169 rfl) rfl
theorem q1452 : (Jvm.Cond.code ({ cls := "SeenInOrderOfAge", name := "wrongIn", desc := "([J)I" } : Jvm.MethodName) prog_1_method_80_code (5 : Nat) (Option.some Jvm.ClassFile.FieldType.int)) ∈ lw_all := lw_g (lw_at lw_m6 170 rfl) rfl
theorem q1453 : (Jvm.Cond.methodLink "SeenInOrderOfAge" (361 : Nat) ({ cls := "SeenInOrderOfAge", name := "isTold", desc := "(J)Z" } : Jvm.MethodName)) ∈ lw_all := lw_g (lw_at lw_m6 171 rfl) rfl
theorem q1454 : (Jvm.Cond.privateMethod ({ cls := "SeenInOrderOfAge", name := "isTold", desc := "(J)Z" } : Jvm.MethodName)) ∈ lw_tbl := lw_at lw_m6 172 rfl
theorem q1455 : (Jvm.Cond.instanceMethod ({ cls := "SeenInOrderOfAge", name := "isTold", desc := "(J)Z" } : Jvm.MethodName)) ∈ lw_all := lw_g (lw_at lw_m6 173 rfl) rfl
theorem q1456 : (Jvm.Cond.code ({ cls := "SeenInOrderOfAge", name := "isTold", desc := "(J)Z" } : Jvm.MethodName) prog_1_method_79_code (3 : Nat) (Option.some Jvm.ClassFile.FieldType.boolean)) ∈ lw_all := lw_g (lw_at lw_m6 174 rfl) rfl
theorem q1457 : (Jvm.Cond.methodLink "SeenInOrderOfAge" (365 : Nat) ({ cls := "java/lang/Math", name := "min", desc := "(II)I" } : Jvm.MethodName)) ∈ lw_all := lw_g (lw_at lw_m6 175 rfl) rfl
theorem q1459 : (Jvm.Cond.instanceMethod ({ cls := "SeenInOrderOfAge", name := "evening", desc := "(I)I" } : Jvm.MethodName)) ∈ lw_all := lw_g (lw_at lw_m6 177 rfl) rfl
theorem q1460 : (Jvm.Cond.selects "SeenInOrderOfAge" ({ cls := "SeenInOrderOfAge", name := "evening", desc := "(I)I" } : Jvm.MethodName) ({ cls := "SeenInOrderOfAge", name := "evening", desc := "(I)I" } : Jvm.MethodName)) ∈ lw_all := lw_g (lw_at lw_m6 178 rfl) rfl
theorem q1461 : (Jvm.Cond.code ({ cls := "SeenInOrderOfAge", name := "evening", desc := "(I)I" } : Jvm.MethodName) prog_1_method_83_code (2 : Nat) (Option.some Jvm.ClassFile.FieldType.int)) ∈ lw_all := lw_g (lw_at lw_m6 179 rfl) rfl
theorem q1462 : (Jvm.Cond.methodLink "SeenInOrderOfAge" (385 : Nat) ({ cls := "SeenInOrderOfAge", name := "happens", desc := "(I)I" } : Jvm.MethodName)) ∈ lw_all := lw_g (lw_at lw_m6 180 rfl) rfl
theorem q1463 : (Jvm.Cond.privateMethod ({ cls := "SeenInOrderOfAge", name := "happens", desc := "(I)I" } : Jvm.MethodName)) ∈ lw_tbl := lw_at lw_m6 181 rfl
theorem q1464 : (Jvm.Cond.instanceMethod ({ cls := "SeenInOrderOfAge", name := "happens", desc := "(I)I" } : Jvm.MethodName)) ∈ lw_all := lw_g (lw_at lw_m6 182 rfl) rfl
theorem q1465 : (Jvm.Cond.code ({ cls := "SeenInOrderOfAge", name := "happens", desc := "(I)I" } : Jvm.MethodName) prog_1_method_82_code (5 : Nat) (Option.some Jvm.ClassFile.FieldType.int)) ∈ lw_all := lw_g (lw_at lw_m6 183 rfl) rfl
theorem q1466 : (Jvm.Cond.methodLink "SeenInOrderOfAge" (379 : Nat) ({ cls := "SeenInOrderOfAge$Window", name := "holds", desc := "(III)V" } : Jvm.MethodName)) ∈ lw_all := lw_g (lw_at lw_m6 184 rfl) rfl
theorem q1473 : (Jvm.Cond.instanceMethod ({ cls := "SeenInOrderOfAge", name := "swap", desc := "()I" } : Jvm.MethodName)) ∈ lw_all := lw_g (lw_at lw_m6 191 rfl) rfl
theorem q1474 : (Jvm.Cond.selects "SeenInOrderOfAge" ({ cls := "SeenInOrderOfAge", name := "swap", desc := "()I" } : Jvm.MethodName) ({ cls := "SeenInOrderOfAge", name := "swap", desc := "()I" } : Jvm.MethodName)) ∈ lw_all := lw_g (lw_at lw_m6 192 rfl) rfl
theorem q1475 : (Jvm.Cond.code ({ cls := "SeenInOrderOfAge", name := "swap", desc := "()I" } : Jvm.MethodName) prog_1_method_84_code (3 : Nat) (Option.some Jvm.ClassFile.FieldType.int)) ∈ lw_all := lw_g (lw_at lw_m6 193 rfl) rfl
theorem q1477 : (Jvm.Cond.instanceMethod ({ cls := "SeenInOrderOfAge", name := "christmases", desc := "(I)I" } : Jvm.MethodName)) ∈ lw_all := lw_g (lw_at lw_m6 195 rfl) rfl
theorem q1478 : (Jvm.Cond.selects "SeenInOrderOfAge" ({ cls := "SeenInOrderOfAge", name := "christmases", desc := "(I)I" } : Jvm.MethodName) ({ cls := "SeenInOrderOfAge", name := "christmases", desc := "(I)I" } : Jvm.MethodName)) ∈ lw_all := lw_g (lw_at lw_m6 196 rfl) rfl
theorem q1479 : (Jvm.Cond.code ({ cls := "SeenInOrderOfAge", name := "christmases", desc := "(I)I" } : Jvm.MethodName) prog_1_method_86_code (4 : Nat) (Option.some Jvm.ClassFile.FieldType.int)) ∈ lw_all := lw_g (lw_at lw_m6 197 rfl) rfl
theorem q1480 : (Jvm.Cond.methodLink "SeenInOrderOfAge" (391 : Nat) ({ cls := "SeenInOrderOfAge", name := "christmas", desc := "()I" } : Jvm.MethodName)) ∈ lw_all := lw_g (lw_at lw_m6 198 rfl) rfl
theorem q1481 : (Jvm.Cond.privateMethod ({ cls := "SeenInOrderOfAge", name := "christmas", desc := "()I" } : Jvm.MethodName)) ∈ lw_tbl := lw_at lw_m6 199 rfl
theorem q1482 : (Jvm.Cond.instanceMethod ({ cls := "SeenInOrderOfAge", name := "christmas", desc := "()I" } : Jvm.MethodName)) ∈ lw_all := lw_g (lw_at lw_m6 200 rfl) rfl
theorem q1483 : (Jvm.Cond.code ({ cls := "SeenInOrderOfAge", name := "christmas", desc := "()I" } : Jvm.MethodName) prog_1_method_85_code (4 : Nat) (Option.some Jvm.ClassFile.FieldType.int)) ∈ lw_all := lw_g (lw_at lw_m6 201 rfl) rfl
theorem q1484 : (Jvm.Cond.methodLink "SeenInOrderOfAge" (388 : Nat) ({ cls := "SeenInOrderOfAge$Window", name := "draw", desc := "(I)I" } : Jvm.MethodName)) ∈ lw_all := lw_g (lw_at lw_m6 202 rfl) rfl
theorem q1490 : (Jvm.Cond.instanceMethod ({ cls := "SeenInOrderOfAge", name := "seed", desc := "(I)I" } : Jvm.MethodName)) ∈ lw_all := lw_g (lw_at lw_m6 208 rfl) rfl
theorem q1491 : (Jvm.Cond.selects "SeenInOrderOfAge" ({ cls := "SeenInOrderOfAge", name := "seed", desc := "(I)I" } : Jvm.MethodName) ({ cls := "SeenInOrderOfAge", name := "seed", desc := "(I)I" } : Jvm.MethodName)) ∈ lw_all := lw_g (lw_at lw_m6 209 rfl) rfl
theorem q1492 : (Jvm.Cond.code ({ cls := "SeenInOrderOfAge", name := "seed", desc := "(I)I" } : Jvm.MethodName) prog_1_method_87_code (3 : Nat) (Option.some Jvm.ClassFile.FieldType.int)) ∈ lw_all := lw_g (lw_at lw_m6 210 rfl) rfl
theorem q1494 : (Jvm.Cond.instanceMethod ({ cls := "SeenInOrderOfAge", name := "image", desc := "()I" } : Jvm.MethodName)) ∈ lw_all := lw_g (lw_at lw_m6 212 rfl) rfl
theorem q1495 : (Jvm.Cond.selects "SeenInOrderOfAge" ({ cls := "SeenInOrderOfAge", name := "image", desc := "()I" } : Jvm.MethodName) ({ cls := "SeenInOrderOfAge", name := "image", desc := "()I" } : Jvm.MethodName)) ∈ lw_all := lw_g (lw_at lw_m6 213 rfl) rfl
theorem q1496 : (Jvm.Cond.code ({ cls := "SeenInOrderOfAge", name := "image", desc := "()I" } : Jvm.MethodName) prog_1_method_88_code (1 : Nat) (Option.some Jvm.ClassFile.FieldType.int)) ∈ lw_all := lw_g (lw_at lw_m6 214 rfl) rfl
theorem q1498 : (Jvm.Cond.instanceMethod ({ cls := "SeenInOrderOfAge", name := "back", desc := "()I" } : Jvm.MethodName)) ∈ lw_all := lw_g (lw_at lw_m6 216 rfl) rfl
theorem q1499 : (Jvm.Cond.selects "SeenInOrderOfAge" ({ cls := "SeenInOrderOfAge", name := "back", desc := "()I" } : Jvm.MethodName) ({ cls := "SeenInOrderOfAge", name := "back", desc := "()I" } : Jvm.MethodName)) ∈ lw_all := lw_g (lw_at lw_m6 217 rfl) rfl
theorem q1500 : (Jvm.Cond.code ({ cls := "SeenInOrderOfAge", name := "back", desc := "()I" } : Jvm.MethodName) prog_1_method_89_code (1 : Nat) (Option.some Jvm.ClassFile.FieldType.int)) ∈ lw_all := lw_g (lw_at lw_m6 218 rfl) rfl
theorem q1502 : (Jvm.Cond.instanceMethod ({ cls := "SeenInOrderOfAge", name := "status", desc := "(I)I" } : Jvm.MethodName)) ∈ lw_all := lw_g (lw_at lw_m6 220 rfl) rfl
theorem q1503 : (Jvm.Cond.selects "SeenInOrderOfAge" ({ cls := "SeenInOrderOfAge", name := "status", desc := "(I)I" } : Jvm.MethodName) ({ cls := "SeenInOrderOfAge", name := "status", desc := "(I)I" } : Jvm.MethodName)) ∈ lw_all := lw_g (lw_at lw_m6 221 rfl) rfl
theorem q1504 : (Jvm.Cond.code ({ cls := "SeenInOrderOfAge", name := "status", desc := "(I)I" } : Jvm.MethodName) prog_1_method_93_code (2 : Nat) (Option.some Jvm.ClassFile.FieldType.int)) ∈ lw_all := lw_g (lw_at lw_m6 222 rfl) rfl
theorem q1505 : (Jvm.Cond.methodLink "SeenInOrderOfAge" (400 : Nat) ({ cls := "SeenInOrderOfAge", name := "allThings", desc := "()I" } : Jvm.MethodName)) ∈ lw_all := lw_g (lw_at lw_m6 223 rfl) rfl
theorem q1506 : (Jvm.Cond.privateMethod ({ cls := "SeenInOrderOfAge", name := "allThings", desc := "()I" } : Jvm.MethodName)) ∈ lw_tbl := lw_at lw_m6 224 rfl
theorem q1507 : (Jvm.Cond.instanceMethod ({ cls := "SeenInOrderOfAge", name := "allThings", desc := "()I" } : Jvm.MethodName)) ∈ lw_all := lw_g (lw_at lw_m6 225 rfl) rfl
theorem q1508 : (Jvm.Cond.code ({ cls := "SeenInOrderOfAge", name := "allThings", desc := "()I" } : Jvm.MethodName) prog_1_method_91_code (3 : Nat) (Option.some Jvm.ClassFile.FieldType.int)) ∈ lw_all := lw_g (lw_at lw_m6 226 rfl) rfl
theorem q1509 : (Jvm.Cond.methodLink "SeenInOrderOfAge" (403 : Nat) ({ cls := "SeenInOrderOfAge", name := "shining", desc := "()I" } : Jvm.MethodName)) ∈ lw_all := lw_g (lw_at lw_m6 227 rfl) rfl
theorem q1510 : (Jvm.Cond.privateMethod ({ cls := "SeenInOrderOfAge", name := "shining", desc := "()I" } : Jvm.MethodName)) ∈ lw_tbl := lw_at lw_m6 228 rfl
theorem q1511 : (Jvm.Cond.instanceMethod ({ cls := "SeenInOrderOfAge", name := "shining", desc := "()I" } : Jvm.MethodName)) ∈ lw_all := lw_g (lw_at lw_m6 229 rfl) rfl
theorem q1512 : (Jvm.Cond.code ({ cls := "SeenInOrderOfAge", name := "shining", desc := "()I" } : Jvm.MethodName) prog_1_method_92_code (3 : Nat) (Option.some Jvm.ClassFile.FieldType.int)) ∈ lw_all := lw_g (lw_at lw_m6 230 rfl) rfl
theorem q1513 : (Jvm.Cond.methodLink "SeenInOrderOfAge" (406 : Nat) ({ cls := "SeenInOrderOfAge", name := "shelved", desc := "()I" } : Jvm.MethodName)) ∈ lw_all := lw_g (lw_at lw_m6 231 rfl) rfl
theorem q1514 : (Jvm.Cond.privateMethod ({ cls := "SeenInOrderOfAge", name := "shelved", desc := "()I" } : Jvm.MethodName)) ∈ lw_tbl := lw_at lw_m6 232 rfl
theorem q1515 : (Jvm.Cond.instanceMethod ({ cls := "SeenInOrderOfAge", name := "shelved", desc := "()I" } : Jvm.MethodName)) ∈ lw_all := lw_g (lw_at lw_m6 233 rfl) rfl
theorem q1516 : (Jvm.Cond.code ({ cls := "SeenInOrderOfAge", name := "shelved", desc := "()I" } : Jvm.MethodName) prog_1_method_90_code (3 : Nat) (Option.some Jvm.ClassFile.FieldType.int)) ∈ lw_all := lw_g (lw_at lw_m6 234 rfl) rfl

