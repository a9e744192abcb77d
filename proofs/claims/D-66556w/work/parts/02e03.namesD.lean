set_option maxRecDepth 100000
theorem q316 : (Jvm.Cond.fieldLink "PollAudit" (76 : Nat) "PollAudit" "wanted" "I") ∈ lw_all := lw_g (lw_at lw_m2 24 rfl) rfl
theorem q317 : (Jvm.Cond.fieldLink "PollAudit" (274 : Nat) "PollAudit" "right" "Z") ∈ lw_all := lw_g (lw_at lw_m2 25 rfl) rfl
theorem q320 : (Jvm.Cond.fieldLink "PollAudit" (81 : Nat) "PollAudit" "all" "[LPollAudit$Pair;") ∈ lw_all := lw_g (lw_at lw_m2 28 rfl) rfl
theorem q323 : (Jvm.Cond.fieldLink "PollAudit" (182 : Nat) "PollAudit" "pairs" "I") ∈ lw_all := lw_g (lw_at lw_m2 31 rfl) rfl
theorem q324 : (Jvm.Cond.fieldLink "PollAudit" (88 : Nat) "PollAudit" "coins" "LPollAudit$Coins;") ∈ lw_all := lw_g (lw_at lw_m2 32 rfl) rfl
theorem q325 : (Jvm.Cond.fieldLink "PollAudit" (95 : Nat) "PollAudit" "seed" "LPollAudit$Seed;") ∈ lw_all := lw_g (lw_at lw_m2 33 rfl) rfl
theorem q326 : (Jvm.Cond.fieldLink "PollAudit" (99 : Nat) "PollAudit" "source" "LPollAudit$Source;") ∈ lw_all := lw_g (lw_at lw_m2 34 rfl) rfl
theorem q327 : (Jvm.Cond.fieldLink "PollAudit" (108 : Nat) "PollAudit" "polling" "LPollAudit$Polling;") ∈ lw_all := lw_g (lw_at lw_m2 35 rfl) rfl
theorem q328 : (Jvm.Cond.fieldLink "PollAudit" (115 : Nat) "PollAudit" "comparing" "LPollAudit$Comparing;") ∈ lw_all := lw_g (lw_at lw_m2 36 rfl) rfl
theorem q329 : (Jvm.Cond.fieldLink "PollAudit" (119 : Nat) "PollAudit" "test" "LPollAudit$Test;") ∈ lw_all := lw_g (lw_at lw_m2 37 rfl) rfl
theorem q331 : (Jvm.Cond.fieldLink "PollAudit" (126 : Nat) "PollAudit" "reckoner" "LPollAudit$Reckoner;") ∈ lw_all := lw_g (lw_at lw_m2 39 rfl) rfl
theorem q333 : (Jvm.Cond.fieldLink "PollAudit" (135 : Nat) "PollAudit" "one" "LPollAudit$Big;") ∈ lw_all := lw_g (lw_at lw_m2 41 rfl) rfl
theorem q335 : (Jvm.Cond.fieldLink "PollAudit" (139 : Nat) "PollAudit" "two" "LPollAudit$Big;") ∈ lw_all := lw_g (lw_at lw_m2 43 rfl) rfl
theorem q336 : (Jvm.Cond.fieldLink "PollAudit" (142 : Nat) "PollAudit" "shownAbove" "LPollAudit$Big;") ∈ lw_all := lw_g (lw_at lw_m2 44 rfl) rfl
theorem q337 : (Jvm.Cond.fieldLink "PollAudit" (145 : Nat) "PollAudit" "shownBelow" "LPollAudit$Big;") ∈ lw_all := lw_g (lw_at lw_m2 45 rfl) rfl
theorem q338 : (Jvm.Cond.fieldLink "PollAudit" (148 : Nat) "PollAudit" "ways" "[LPollAudit$Big;") ∈ lw_all := lw_g (lw_at lw_m2 46 rfl) rfl
theorem q339 : (Jvm.Cond.fieldLink "PollAudit" (152 : Nat) "PollAudit" "next" "[LPollAudit$Big;") ∈ lw_all := lw_g (lw_at lw_m2 47 rfl) rfl
theorem q340 : (Jvm.Cond.fieldLink "PollAudit" (155 : Nat) "PollAudit" "sure" "[Z") ∈ lw_all := lw_g (lw_at lw_m2 48 rfl) rfl
theorem q341 : (Jvm.Cond.fieldLink "PollAudit" (158 : Nat) "PollAudit" "sum" "LPollAudit$Big;") ∈ lw_all := lw_g (lw_at lw_m2 49 rfl) rfl
theorem q342 : (Jvm.Cond.fieldLink "PollAudit" (161 : Nat) "PollAudit" "power" "LPollAudit$Big;") ∈ lw_all := lw_g (lw_at lw_m2 50 rfl) rfl
theorem q343 : (Jvm.Cond.laysFinal "PollAudit" "PollAudit" "votes" "[I") ∈ lw_all := lw_g (lw_at lw_m2 51 rfl) rfl
theorem q344 : (Jvm.Cond.soleField "PollAudit" "votes") ∈ lw_all := lw_g (lw_at lw_m2 52 rfl) rfl
theorem q345 : (Jvm.Cond.lays "PollAudit" "PollAudit" "candidates" "I") ∈ lw_all := lw_g (lw_at lw_m2 53 rfl) rfl
theorem q346 : (Jvm.Cond.soleField "PollAudit" "candidates") ∈ lw_all := lw_g (lw_at lw_m2 54 rfl) rfl
theorem q347 : (Jvm.Cond.laysFinal "PollAudit" "PollAudit" "sizes" "[I") ∈ lw_all := lw_g (lw_at lw_m2 55 rfl) rfl
theorem q348 : (Jvm.Cond.soleField "PollAudit" "sizes") ∈ lw_all := lw_g (lw_at lw_m2 56 rfl) rfl
theorem q349 : (Jvm.Cond.lays "PollAudit" "PollAudit" "batches" "I") ∈ lw_all := lw_g (lw_at lw_m2 57 rfl) rfl
theorem q350 : (Jvm.Cond.soleField "PollAudit" "batches") ∈ lw_all := lw_g (lw_at lw_m2 58 rfl) rfl
theorem q351 : (Jvm.Cond.lays "PollAudit" "PollAudit" "ballots" "I") ∈ lw_all := lw_g (lw_at lw_m2 59 rfl) rfl
theorem q352 : (Jvm.Cond.soleField "PollAudit" "ballots") ∈ lw_all := lw_g (lw_at lw_m2 60 rfl) rfl
theorem q353 : (Jvm.Cond.lays "PollAudit" "PollAudit" "wins" "I") ∈ lw_all := lw_g (lw_at lw_m2 61 rfl) rfl
theorem q354 : (Jvm.Cond.soleField "PollAudit" "wins") ∈ lw_all := lw_g (lw_at lw_m2 62 rfl) rfl
theorem q355 : (Jvm.Cond.lays "PollAudit" "PollAudit" "cap" "I") ∈ lw_all := lw_g (lw_at lw_m2 63 rfl) rfl
theorem q356 : (Jvm.Cond.soleField "PollAudit" "cap") ∈ lw_all := lw_g (lw_at lw_m2 64 rfl) rfl
theorem q357 : (Jvm.Cond.lays "PollAudit" "PollAudit" "limitUp" "I") ∈ lw_all := lw_g (lw_at lw_m2 65 rfl) rfl
theorem q358 : (Jvm.Cond.soleField "PollAudit" "limitUp") ∈ lw_all := lw_g (lw_at lw_m2 66 rfl) rfl
theorem q359 : (Jvm.Cond.lays "PollAudit" "PollAudit" "limitLow" "I") ∈ lw_all := lw_g (lw_at lw_m2 67 rfl) rfl
theorem q360 : (Jvm.Cond.soleField "PollAudit" "limitLow") ∈ lw_all := lw_g (lw_at lw_m2 68 rfl) rfl
theorem q361 : (Jvm.Cond.lays "PollAudit" "PollAudit" "gammaUp" "I") ∈ lw_all := lw_g (lw_at lw_m2 69 rfl) rfl
theorem q362 : (Jvm.Cond.soleField "PollAudit" "gammaUp") ∈ lw_all := lw_g (lw_at lw_m2 70 rfl) rfl
theorem q363 : (Jvm.Cond.lays "PollAudit" "PollAudit" "gammaLow" "I") ∈ lw_all := lw_g (lw_at lw_m2 71 rfl) rfl
theorem q364 : (Jvm.Cond.soleField "PollAudit" "gammaLow") ∈ lw_all := lw_g (lw_at lw_m2 72 rfl) rfl
theorem q365 : (Jvm.Cond.laysFinal "PollAudit" "PollAudit" "records" "[B") ∈ lw_all := lw_g (lw_at lw_m2 73 rfl) rfl
theorem q366 : (Jvm.Cond.soleField "PollAudit" "records") ∈ lw_all := lw_g (lw_at lw_m2 74 rfl) rfl
theorem q367 : (Jvm.Cond.laysFinal "PollAudit" "PollAudit" "seen" "[B") ∈ lw_all := lw_g (lw_at lw_m2 75 rfl) rfl
theorem q368 : (Jvm.Cond.soleField "PollAudit" "seen") ∈ lw_all := lw_g (lw_at lw_m2 76 rfl) rfl
theorem q369 : (Jvm.Cond.laysFinal "PollAudit" "PollAudit" "drawn" "[S") ∈ lw_all := lw_g (lw_at lw_m2 77 rfl) rfl
theorem q370 : (Jvm.Cond.soleField "PollAudit" "drawn") ∈ lw_all := lw_g (lw_at lw_m2 78 rfl) rfl
theorem q371 : (Jvm.Cond.laysFinal "PollAudit" "PollAudit" "isWinner" "[Z") ∈ lw_all := lw_g (lw_at lw_m2 79 rfl) rfl
theorem q372 : (Jvm.Cond.soleField "PollAudit" "isWinner") ∈ lw_all := lw_g (lw_at lw_m2 80 rfl) rfl
theorem q373 : (Jvm.Cond.laysFinal "PollAudit" "PollAudit" "tally" "[I") ∈ lw_all := lw_g (lw_at lw_m2 81 rfl) rfl
theorem q374 : (Jvm.Cond.soleField "PollAudit" "tally") ∈ lw_all := lw_g (lw_at lw_m2 82 rfl) rfl
theorem q375 : (Jvm.Cond.laysFinal "PollAudit" "PollAudit" "counts" "[I") ∈ lw_all := lw_g (lw_at lw_m2 83 rfl) rfl
theorem q376 : (Jvm.Cond.soleField "PollAudit" "counts") ∈ lw_all := lw_g (lw_at lw_m2 84 rfl) rfl
theorem q377 : (Jvm.Cond.lays "PollAudit" "PollAudit" "stage" "I") ∈ lw_all := lw_g (lw_at lw_m2 85 rfl) rfl
theorem q378 : (Jvm.Cond.soleField "PollAudit" "stage") ∈ lw_all := lw_g (lw_at lw_m2 86 rfl) rfl
theorem q379 : (Jvm.Cond.lays "PollAudit" "PollAudit" "draws" "I") ∈ lw_all := lw_g (lw_at lw_m2 87 rfl) rfl
theorem q380 : (Jvm.Cond.soleField "PollAudit" "draws") ∈ lw_all := lw_g (lw_at lw_m2 88 rfl) rfl
theorem q381 : (Jvm.Cond.lays "PollAudit" "PollAudit" "different" "I") ∈ lw_all := lw_g (lw_at lw_m2 89 rfl) rfl
theorem q382 : (Jvm.Cond.soleField "PollAudit" "different") ∈ lw_all := lw_g (lw_at lw_m2 90 rfl) rfl
theorem q383 : (Jvm.Cond.lays "PollAudit" "PollAudit" "blanks" "I") ∈ lw_all := lw_g (lw_at lw_m2 91 rfl) rfl
theorem q384 : (Jvm.Cond.soleField "PollAudit" "blanks") ∈ lw_all := lw_g (lw_at lw_m2 92 rfl) rfl
theorem q385 : (Jvm.Cond.lays "PollAudit" "PollAudit" "wanted" "I") ∈ lw_all := lw_g (lw_at lw_m2 93 rfl) rfl
theorem q386 : (Jvm.Cond.soleField "PollAudit" "wanted") ∈ lw_all := lw_g (lw_at lw_m2 94 rfl) rfl
theorem q387 : (Jvm.Cond.lays "PollAudit" "PollAudit" "right" "Z") ∈ lw_all := lw_g (lw_at lw_m2 95 rfl) rfl
theorem q388 : (Jvm.Cond.soleField "PollAudit" "right") ∈ lw_all := lw_g (lw_at lw_m2 96 rfl) rfl
theorem q389 : (Jvm.Cond.laysFinal "PollAudit" "PollAudit" "all" "[LPollAudit$Pair;") ∈ lw_all := lw_g (lw_at lw_m2 97 rfl) rfl
theorem q390 : (Jvm.Cond.soleField "PollAudit" "all") ∈ lw_all := lw_g (lw_at lw_m2 98 rfl) rfl
theorem q391 : (Jvm.Cond.lays "PollAudit" "PollAudit" "pairs" "I") ∈ lw_all := lw_g (lw_at lw_m2 99 rfl) rfl
theorem q392 : (Jvm.Cond.soleField "PollAudit" "pairs") ∈ lw_all := lw_g (lw_at lw_m2 100 rfl) rfl
theorem q393 : (Jvm.Cond.laysFinal "PollAudit" "PollAudit" "coins" "LPollAudit$Coins;") ∈ lw_all := lw_g (lw_at lw_m2 101 rfl) rfl
theorem q394 : (Jvm.Cond.soleField "PollAudit" "coins") ∈ lw_all := lw_g (lw_at lw_m2 102 rfl) rfl
theorem q395 : (Jvm.Cond.laysFinal "PollAudit" "PollAudit" "seed" "LPollAudit$Seed;") ∈ lw_all := lw_g (lw_at lw_m2 103 rfl) rfl
theorem q396 : (Jvm.Cond.soleField "PollAudit" "seed") ∈ lw_all := lw_g (lw_at lw_m2 104 rfl) rfl
theorem q397 : (Jvm.Cond.lays "PollAudit" "PollAudit" "source" "LPollAudit$Source;") ∈ lw_all := lw_g (lw_at lw_m2 105 rfl) rfl
theorem q398 : (Jvm.Cond.soleField "PollAudit" "source") ∈ lw_all := lw_g (lw_at lw_m2 106 rfl) rfl
theorem q399 : (Jvm.Cond.laysFinal "PollAudit" "PollAudit" "polling" "LPollAudit$Polling;") ∈ lw_all := lw_g (lw_at lw_m2 107 rfl) rfl
theorem q400 : (Jvm.Cond.soleField "PollAudit" "polling") ∈ lw_all := lw_g (lw_at lw_m2 108 rfl) rfl
theorem q401 : (Jvm.Cond.laysFinal "PollAudit" "PollAudit" "comparing" "LPollAudit$Comparing;") ∈ lw_all := lw_g (lw_at lw_m2 109 rfl) rfl
theorem q402 : (Jvm.Cond.soleField "PollAudit" "comparing") ∈ lw_all := lw_g (lw_at lw_m2 110 rfl) rfl
theorem q403 : (Jvm.Cond.lays "PollAudit" "PollAudit" "test" "LPollAudit$Test;") ∈ lw_all := lw_g (lw_at lw_m2 111 rfl) rfl
theorem q404 : (Jvm.Cond.soleField "PollAudit" "test") ∈ lw_all := lw_g (lw_at lw_m2 112 rfl) rfl
theorem q405 : (Jvm.Cond.laysFinal "PollAudit" "PollAudit" "reckoner" "LPollAudit$Reckoner;") ∈ lw_all := lw_g (lw_at lw_m2 113 rfl) rfl
theorem q406 : (Jvm.Cond.soleField "PollAudit" "reckoner") ∈ lw_all := lw_g (lw_at lw_m2 114 rfl) rfl
theorem q407 : (Jvm.Cond.laysFinal "PollAudit" "PollAudit" "one" "LPollAudit$Big;") ∈ lw_all := lw_g (lw_at lw_m2 115 rfl) rfl
theorem q408 : (Jvm.Cond.soleField "PollAudit" "one") ∈ lw_all := lw_g (lw_at lw_m2 116 rfl) rfl
theorem q409 : (Jvm.Cond.laysFinal "PollAudit" "PollAudit" "two" "LPollAudit$Big;") ∈ lw_all := lw_g (lw_at lw_m2 117 rfl) rfl
theorem q410 : (Jvm.Cond.soleField "PollAudit" "two") ∈ lw_all := lw_g (lw_at lw_m2 118 rfl) rfl
theorem q411 : (Jvm.Cond.laysFinal "PollAudit" "PollAudit" "shownAbove" "LPollAudit$Big;") ∈ lw_all := lw_g (lw_at lw_m2 119 rfl) rfl
theorem q412 : (Jvm.Cond.soleField "PollAudit" "shownAbove") ∈ lw_all := lw_g (lw_at lw_m2 120 rfl) rfl
theorem q413 : (Jvm.Cond.laysFinal "PollAudit" "PollAudit" "shownBelow" "LPollAudit$Big;") ∈ lw_all := lw_g (lw_at lw_m2 121 rfl) rfl
theorem q414 : (Jvm.Cond.soleField "PollAudit" "shownBelow") ∈ lw_all := lw_g (lw_at lw_m2 122 rfl) rfl
theorem q415 : (Jvm.Cond.laysFinal "PollAudit" "PollAudit" "ways" "[LPollAudit$Big;") ∈ lw_all := lw_g (lw_at lw_m2 123 rfl) rfl
theorem q416 : (Jvm.Cond.soleField "PollAudit" "ways") ∈ lw_all := lw_g (lw_at lw_m2 124 rfl) rfl
theorem q417 : (Jvm.Cond.laysFinal "PollAudit" "PollAudit" "next" "[LPollAudit$Big;") ∈ lw_all := lw_g (lw_at lw_m2 125 rfl) rfl
theorem q418 : (Jvm.Cond.soleField "PollAudit" "next") ∈ lw_all := lw_g (lw_at lw_m2 126 rfl) rfl
theorem q419 : (Jvm.Cond.laysFinal "PollAudit" "PollAudit" "sure" "[Z") ∈ lw_all := lw_g (lw_at lw_m2 127 rfl) rfl
theorem q420 : (Jvm.Cond.soleField "PollAudit" "sure") ∈ lw_all := lw_g (lw_at lw_m2 128 rfl) rfl
theorem q421 : (Jvm.Cond.laysFinal "PollAudit" "PollAudit" "sum" "LPollAudit$Big;") ∈ lw_all := lw_g (lw_at lw_m2 129 rfl) rfl
theorem q422 : (Jvm.Cond.soleField "PollAudit" "sum") ∈ lw_all := lw_g (lw_at lw_m2 130 rfl) rfl
theorem q423 : (Jvm.Cond.laysFinal "PollAudit" "PollAudit" "power" "LPollAudit$Big;") ∈ lw_all := lw_g (lw_at lw_m2 131 rfl) rfl
theorem q424 : (Jvm.Cond.soleField "PollAudit" "power") ∈ lw_all := lw_g (lw_at lw_m2 132 rfl) rfl
theorem q425 : (Jvm.Cond.superclass "PollAudit" "java/lang/Object") ∈ lw_all := lw_g (lw_at lw_m2 133 rfl) rfl
theorem q427 : (Jvm.Cond.instanceMethod ({ cls := "PollAudit", name := "again", desc := "()V" } : Jvm.MethodName)) ∈ lw_all := lw_g (lw_at lw_m2 135 rfl) rfl
theorem q428 : (Jvm.Cond.selects "PollAudit" ({ cls := "PollAudit", name := "again", desc := "()V" } : Jvm.MethodName) ({ cls := "PollAudit", name := "again", desc := "()V" } : Jvm.MethodName)) ∈ lw_all := lw_g (lw_at lw_m2 136 rfl) rfl
theorem q429 : (Jvm.Cond.code ({ cls := "PollAudit", name := "again", desc := "()V" } : Jvm.MethodName) prog_1_method_24_code (2 : Nat) (Option.none : Option Jvm.ClassFile.FieldType)) ∈ lw_all := lw_g (lw_at lw_m2 137 rfl) rfl
theorem q437 : (Jvm.Cond.instanceMethod ({ cls := "PollAudit", name := "candidate", desc := "(I)I" } : Jvm.MethodName)) ∈ lw_all := lw_g (lw_at lw_m2 145 rfl) rfl
theorem q438 : (Jvm.Cond.selects "PollAudit" ({ cls := "PollAudit", name := "candidate", desc := "(I)I" } : Jvm.MethodName) ({ cls := "PollAudit", name := "candidate", desc := "(I)I" } : Jvm.MethodName)) ∈ lw_all := lw_g (lw_at lw_m2 146 rfl) rfl
theorem q439 : (Jvm.Cond.code ({ cls := "PollAudit", name := "candidate", desc := "(I)I" } : Jvm.MethodName) prog_1_method_11_code (2 : Nat) (Option.some Jvm.ClassFile.FieldType.int)) ∈ lw_all := lw_g (lw_at lw_m2 147 rfl) rfl
theorem q440 : (Jvm.Cond.constant "PollAudit" (209 : Nat) (1000000 : Int32)) ∈ lw_all := lw_g (lw_at lw_m2 148 rfl) rfl
theorem q441 : (Jvm.Cond.methodLink "PollAudit" (210 : Nat) ({ cls := "PollAudit", name := "need", desc := "(Z)V" } : Jvm.MethodName)) ∈ lw_all := lw_g (lw_at lw_m2 149 rfl) rfl
theorem q442 : (Jvm.Cond.static ({ cls := "PollAudit", name := "need", desc := "(Z)V" } : Jvm.MethodName)) ∈ lw_all := lw_g (lw_at lw_m2 150 rfl) rfl
theorem q443 : (Jvm.Cond.code ({ cls := "PollAudit", name := "need", desc := "(Z)V" } : Jvm.MethodName) prog_1_method_2_code (1 : Nat) (Option.none : Option Jvm.ClassFile.FieldType)) ∈ lw_all := lw_g (lw_at lw_m2 151 rfl) rfl
theorem q444 : (Jvm.Cond.classLink "PollAudit" (7 : Nat) "java/lang/IllegalArgumentException") ∈ lw_all := lw_g (lw_at lw_m2 152 rfl) rfl
theorem q487 : (Jvm.Cond.stringRef "PollAudit" (9 : Nat) "not as said") ∈ lw_tbl := lw_at lw_m2 195 rfl
theorem q488 : (Jvm.Cond.methodLink "PollAudit" (11 : Nat) ({ cls := "java/lang/IllegalArgumentException", name := "<init>", desc := "(Ljava/lang/String;)V" } : Jvm.MethodName)) ∈ lw_all := lw_g (lw_at lw_m2 196 rfl) rfl
theorem q513 : (Jvm.Cond.methodLink "PollAudit" (213 : Nat) ({ cls := "PollAudit", name := "setting", desc := "()V" } : Jvm.MethodName)) ∈ lw_all := lw_g (lw_at lw_m2 221 rfl) rfl
theorem q514 : (Jvm.Cond.privateMethod ({ cls := "PollAudit", name := "setting", desc := "()V" } : Jvm.MethodName)) ∈ lw_tbl := lw_at lw_m2 222 rfl
theorem q515 : (Jvm.Cond.instanceMethod ({ cls := "PollAudit", name := "setting", desc := "()V" } : Jvm.MethodName)) ∈ lw_all := lw_g (lw_at lw_m2 223 rfl) rfl
theorem q516 : (Jvm.Cond.code ({ cls := "PollAudit", name := "setting", desc := "()V" } : Jvm.MethodName) prog_1_method_10_code (1 : Nat) (Option.none : Option Jvm.ClassFile.FieldType)) ∈ lw_all := lw_g (lw_at lw_m2 224 rfl) rfl
theorem q517 : (Jvm.Cond.methodLink "PollAudit" (205 : Nat) ({ cls := "PollAudit", name := "now", desc := "(Z)V" } : Jvm.MethodName)) ∈ lw_all := lw_g (lw_at lw_m2 225 rfl) rfl
theorem q518 : (Jvm.Cond.static ({ cls := "PollAudit", name := "now", desc := "(Z)V" } : Jvm.MethodName)) ∈ lw_all := lw_g (lw_at lw_m2 226 rfl) rfl
theorem q519 : (Jvm.Cond.code ({ cls := "PollAudit", name := "now", desc := "(Z)V" } : Jvm.MethodName) prog_1_method_3_code (1 : Nat) (Option.none : Option Jvm.ClassFile.FieldType)) ∈ lw_all := lw_g (lw_at lw_m2 227 rfl) rfl
theorem q520 : (Jvm.Cond.classLink "PollAudit" (14 : Nat) "java/lang/IllegalStateException") ∈ lw_all := lw_g (lw_at lw_m2 228 rfl) rfl
theorem q529 : (Jvm.Cond.stringRef "PollAudit" (16 : Nat) "not now") ∈ lw_tbl := lw_at lw_m2 237 rfl
theorem q530 : (Jvm.Cond.methodLink "PollAudit" (18 : Nat) ({ cls := "java/lang/IllegalStateException", name := "<init>", desc := "(Ljava/lang/String;)V" } : Jvm.MethodName)) ∈ lw_all := lw_g (lw_at lw_m2 238 rfl) rfl
theorem q536 : (Jvm.Cond.methodLink "PollAudit" (216 : Nat) ({ cls := "PollAudit", name := "room", desc := "(Z)V" } : Jvm.MethodName)) ∈ lw_all := lw_g (lw_at lw_m3 4 rfl) rfl
theorem q537 : (Jvm.Cond.static ({ cls := "PollAudit", name := "room", desc := "(Z)V" } : Jvm.MethodName)) ∈ lw_all := lw_g (lw_at lw_m3 5 rfl) rfl
theorem q538 : (Jvm.Cond.code ({ cls := "PollAudit", name := "room", desc := "(Z)V" } : Jvm.MethodName) prog_1_method_4_code (1 : Nat) (Option.none : Option Jvm.ClassFile.FieldType)) ∈ lw_all := lw_g (lw_at lw_m3 6 rfl) rfl
theorem q539 : (Jvm.Cond.classLink "PollAudit" (19 : Nat) "java/lang/UnsupportedOperationException") ∈ lw_all := lw_g (lw_at lw_m3 7 rfl) rfl
theorem q548 : (Jvm.Cond.stringRef "PollAudit" (21 : Nat) "no room") ∈ lw_tbl := lw_at lw_m3 16 rfl
theorem q549 : (Jvm.Cond.methodLink "PollAudit" (23 : Nat) ({ cls := "java/lang/UnsupportedOperationException", name := "<init>", desc := "(Ljava/lang/String;)V" } : Jvm.MethodName)) ∈ lw_all := lw_g (lw_at lw_m3 17 rfl) rfl
theorem q559 : (Jvm.Cond.instanceMethod ({ cls := "PollAudit", name := "batch", desc := "(I)I" } : Jvm.MethodName)) ∈ lw_all := lw_g (lw_at lw_m3 27 rfl) rfl
theorem q560 : (Jvm.Cond.selects "PollAudit" ({ cls := "PollAudit", name := "batch", desc := "(I)I" } : Jvm.MethodName) ({ cls := "PollAudit", name := "batch", desc := "(I)I" } : Jvm.MethodName)) ∈ lw_all := lw_g (lw_at lw_m3 28 rfl) rfl
theorem q561 : (Jvm.Cond.code ({ cls := "PollAudit", name := "batch", desc := "(I)I" } : Jvm.MethodName) prog_1_method_12_code (2 : Nat) (Option.some Jvm.ClassFile.FieldType.int)) ∈ lw_all := lw_g (lw_at lw_m3 29 rfl) rfl
theorem q590 : (Jvm.Cond.instanceMethod ({ cls := "PollAudit", name := "set", desc := "(II)I" } : Jvm.MethodName)) ∈ lw_all := lw_g (lw_at lw_m3 58 rfl) rfl
theorem q591 : (Jvm.Cond.selects "PollAudit" ({ cls := "PollAudit", name := "set", desc := "(II)I" } : Jvm.MethodName) ({ cls := "PollAudit", name := "set", desc := "(II)I" } : Jvm.MethodName)) ∈ lw_all := lw_g (lw_at lw_m3 59 rfl) rfl
theorem q592 : (Jvm.Cond.code ({ cls := "PollAudit", name := "set", desc := "(II)I" } : Jvm.MethodName) prog_1_method_13_code (4 : Nat) (Option.some Jvm.ClassFile.FieldType.int)) ∈ lw_all := lw_g (lw_at lw_m3 60 rfl) rfl
theorem q593 : (Jvm.Cond.methodLink "PollAudit" (225 : Nat) ({ cls := "PollAudit", name := "inside", desc := "(Z)V" } : Jvm.MethodName)) ∈ lw_all := lw_g (lw_at lw_m3 61 rfl) rfl
theorem q594 : (Jvm.Cond.static ({ cls := "PollAudit", name := "inside", desc := "(Z)V" } : Jvm.MethodName)) ∈ lw_all := lw_g (lw_at lw_m3 62 rfl) rfl
theorem q595 : (Jvm.Cond.code ({ cls := "PollAudit", name := "inside", desc := "(Z)V" } : Jvm.MethodName) prog_1_method_1_code (1 : Nat) (Option.none : Option Jvm.ClassFile.FieldType)) ∈ lw_all := lw_g (lw_at lw_m3 63 rfl) rfl
theorem q596 : (Jvm.Cond.classLink "PollAudit" (1 : Nat) "java/lang/IndexOutOfBoundsException") ∈ lw_all := lw_g (lw_at lw_m3 64 rfl) rfl
theorem q605 : (Jvm.Cond.methodLink "PollAudit" (3 : Nat) ({ cls := "java/lang/IndexOutOfBoundsException", name := "<init>", desc := "()V" } : Jvm.MethodName)) ∈ lw_all := lw_g (lw_at lw_m3 73 rfl) rfl
theorem q621 : (Jvm.Cond.instanceMethod ({ cls := "PollAudit", name := "fraction", desc := "(III)V" } : Jvm.MethodName)) ∈ lw_all := lw_g (lw_at lw_m3 89 rfl) rfl
theorem q622 : (Jvm.Cond.selects "PollAudit" ({ cls := "PollAudit", name := "fraction", desc := "(III)V" } : Jvm.MethodName) ({ cls := "PollAudit", name := "fraction", desc := "(III)V" } : Jvm.MethodName)) ∈ lw_all := lw_g (lw_at lw_m3 90 rfl) rfl
theorem q623 : (Jvm.Cond.code ({ cls := "PollAudit", name := "fraction", desc := "(III)V" } : Jvm.MethodName) prog_1_method_14_code (4 : Nat) (Option.none : Option Jvm.ClassFile.FieldType)) ∈ lw_all := lw_g (lw_at lw_m3 91 rfl) rfl
theorem q628 : (Jvm.Cond.instanceMethod ({ cls := "PollAudit", name := "record", desc := "(III)V" } : Jvm.MethodName)) ∈ lw_all := lw_g (lw_at lw_m3 96 rfl) rfl
theorem q629 : (Jvm.Cond.selects "PollAudit" ({ cls := "PollAudit", name := "record", desc := "(III)V" } : Jvm.MethodName) ({ cls := "PollAudit", name := "record", desc := "(III)V" } : Jvm.MethodName)) ∈ lw_all := lw_g (lw_at lw_m3 97 rfl) rfl
theorem q630 : (Jvm.Cond.code ({ cls := "PollAudit", name := "record", desc := "(III)V" } : Jvm.MethodName) prog_1_method_15_code (5 : Nat) (Option.none : Option Jvm.ClassFile.FieldType)) ∈ lw_all := lw_g (lw_at lw_m3 98 rfl) rfl
theorem q631 : (Jvm.Cond.methodLink "PollAudit" (228 : Nat) ({ cls := "PollAudit", name := "isCandidate", desc := "(I)Z" } : Jvm.MethodName)) ∈ lw_all := lw_g (lw_at lw_m3 99 rfl) rfl
theorem q632 : (Jvm.Cond.privateMethod ({ cls := "PollAudit", name := "isCandidate", desc := "(I)Z" } : Jvm.MethodName)) ∈ lw_tbl := lw_at lw_m3 100 rfl
theorem q633 : (Jvm.Cond.instanceMethod ({ cls := "PollAudit", name := "isCandidate", desc := "(I)Z" } : Jvm.MethodName)) ∈ lw_all := lw_g (lw_at lw_m3 101 rfl) rfl
theorem q634 : (Jvm.Cond.code ({ cls := "PollAudit", name := "isCandidate", desc := "(I)Z" } : Jvm.MethodName) prog_1_method_6_code (2 : Nat) (Option.some Jvm.ClassFile.FieldType.boolean)) ∈ lw_all := lw_g (lw_at lw_m3 102 rfl) rfl
theorem q639 : (Jvm.Cond.instanceMethod ({ cls := "PollAudit", name := "digit", desc := "(I)I" } : Jvm.MethodName)) ∈ lw_all := lw_g (lw_at lw_m3 107 rfl) rfl
theorem q640 : (Jvm.Cond.selects "PollAudit" ({ cls := "PollAudit", name := "digit", desc := "(I)I" } : Jvm.MethodName) ({ cls := "PollAudit", name := "digit", desc := "(I)I" } : Jvm.MethodName)) ∈ lw_all := lw_g (lw_at lw_m3 108 rfl) rfl
theorem q641 : (Jvm.Cond.code ({ cls := "PollAudit", name := "digit", desc := "(I)I" } : Jvm.MethodName) prog_1_method_16_code (2 : Nat) (Option.some Jvm.ClassFile.FieldType.int)) ∈ lw_all := lw_g (lw_at lw_m3 109 rfl) rfl
theorem q646 : (Jvm.Cond.instanceMethod ({ cls := "PollAudit", name := "coins", desc := "(II)I" } : Jvm.MethodName)) ∈ lw_all := lw_g (lw_at lw_m3 114 rfl) rfl
theorem q647 : (Jvm.Cond.selects "PollAudit" ({ cls := "PollAudit", name := "coins", desc := "(II)I" } : Jvm.MethodName) ({ cls := "PollAudit", name := "coins", desc := "(II)I" } : Jvm.MethodName)) ∈ lw_all := lw_g (lw_at lw_m3 115 rfl) rfl
theorem q648 : (Jvm.Cond.code ({ cls := "PollAudit", name := "coins", desc := "(II)I" } : Jvm.MethodName) prog_1_method_17_code (4 : Nat) (Option.some Jvm.ClassFile.FieldType.int)) ∈ lw_all := lw_g (lw_at lw_m3 116 rfl) rfl
theorem q649 : (Jvm.Cond.methodLink "PollAudit" (239 : Nat) ({ cls := "PollAudit$Coins", name := "add", desc := "(Z)V" } : Jvm.MethodName)) ∈ lw_all := lw_g (lw_at lw_m3 117 rfl) rfl
theorem q657 : (Jvm.Cond.instanceMethod ({ cls := "PollAudit", name := "start", desc := "(ZZ)V" } : Jvm.MethodName)) ∈ lw_all := lw_g (lw_at lw_m3 125 rfl) rfl
theorem q658 : (Jvm.Cond.selects "PollAudit" ({ cls := "PollAudit", name := "start", desc := "(ZZ)V" } : Jvm.MethodName) ({ cls := "PollAudit", name := "start", desc := "(ZZ)V" } : Jvm.MethodName)) ∈ lw_all := lw_g (lw_at lw_m3 126 rfl) rfl
theorem q659 : (Jvm.Cond.code ({ cls := "PollAudit", name := "start", desc := "(ZZ)V" } : Jvm.MethodName) prog_1_method_19_code (5 : Nat) (Option.none : Option Jvm.ClassFile.FieldType)) ∈ lw_all := lw_g (lw_at lw_m3 127 rfl) rfl
theorem q660 : (Jvm.Cond.methodLink "PollAudit" (242 : Nat) ({ cls := "PollAudit", name := "findWinners", desc := "()Z" } : Jvm.MethodName)) ∈ lw_all := lw_g (lw_at lw_m3 128 rfl) rfl
theorem q661 : (Jvm.Cond.privateMethod ({ cls := "PollAudit", name := "findWinners", desc := "()Z" } : Jvm.MethodName)) ∈ lw_tbl := lw_at lw_m3 129 rfl
theorem q662 : (Jvm.Cond.instanceMethod ({ cls := "PollAudit", name := "findWinners", desc := "()Z" } : Jvm.MethodName)) ∈ lw_all := lw_g (lw_at lw_m3 130 rfl) rfl
theorem q663 : (Jvm.Cond.code ({ cls := "PollAudit", name := "findWinners", desc := "()Z" } : Jvm.MethodName) prog_1_method_18_code (7 : Nat) (Option.some Jvm.ClassFile.FieldType.boolean)) ∈ lw_all := lw_g (lw_at lw_m3 131 rfl) rfl
theorem q664 : (Jvm.Cond.interfaceEntry "PollAudit" (246 : Nat)) ∈ lw_tbl := lw_at lw_m3 132 rfl
theorem q665 : (Jvm.Cond.methodLink "PollAudit" (246 : Nat) ({ cls := "PollAudit$Test", name := "begin", desc := "()V" } : Jvm.MethodName)) ∈ lw_all := lw_g (lw_at lw_m3 133 rfl) rfl
theorem q686 : (Jvm.Cond.instanceMethod ({ cls := "PollAudit", name := "draw", desc := "()I" } : Jvm.MethodName)) ∈ lw_all := lw_g (lw_at lw_m3 154 rfl) rfl
theorem q687 : (Jvm.Cond.selects "PollAudit" ({ cls := "PollAudit", name := "draw", desc := "()I" } : Jvm.MethodName) ({ cls := "PollAudit", name := "draw", desc := "()I" } : Jvm.MethodName)) ∈ lw_all := lw_g (lw_at lw_m3 155 rfl) rfl
theorem q688 : (Jvm.Cond.code ({ cls := "PollAudit", name := "draw", desc := "()I" } : Jvm.MethodName) prog_1_method_21_code (2 : Nat) (Option.some Jvm.ClassFile.FieldType.int)) ∈ lw_all := lw_g (lw_at lw_m3 156 rfl) rfl
theorem q689 : (Jvm.Cond.interfaceEntry "PollAudit" (261 : Nat)) ∈ lw_tbl := lw_at lw_m3 157 rfl
theorem q690 : (Jvm.Cond.methodLink "PollAudit" (261 : Nat) ({ cls := "PollAudit$Source", name := "draw", desc := "(II)I" } : Jvm.MethodName)) ∈ lw_all := lw_g (lw_at lw_m3 158 rfl) rfl
theorem q740 : (Jvm.Cond.methodLink "PollAudit" (269 : Nat) ({ cls := "PollAudit", name := "look", desc := "(I)V" } : Jvm.MethodName)) ∈ lw_all := lw_g (lw_at lw_m3 208 rfl) rfl
theorem q741 : (Jvm.Cond.privateMethod ({ cls := "PollAudit", name := "look", desc := "(I)V" } : Jvm.MethodName)) ∈ lw_tbl := lw_at lw_m3 209 rfl
theorem q742 : (Jvm.Cond.instanceMethod ({ cls := "PollAudit", name := "look", desc := "(I)V" } : Jvm.MethodName)) ∈ lw_all := lw_g (lw_at lw_m3 210 rfl) rfl
theorem q743 : (Jvm.Cond.code ({ cls := "PollAudit", name := "look", desc := "(I)V" } : Jvm.MethodName) prog_1_method_20_code (3 : Nat) (Option.none : Option Jvm.ClassFile.FieldType)) ∈ lw_all := lw_g (lw_at lw_m3 211 rfl) rfl
theorem q744 : (Jvm.Cond.interfaceEntry "PollAudit" (254 : Nat)) ∈ lw_tbl := lw_at lw_m3 212 rfl
theorem q745 : (Jvm.Cond.methodLink "PollAudit" (254 : Nat) ({ cls := "PollAudit$Test", name := "look", desc := "(III)V" } : Jvm.MethodName)) ∈ lw_all := lw_g (lw_at lw_m3 213 rfl) rfl
theorem q758 : (Jvm.Cond.privateMethod ({ cls := "PollAudit", name := "margin", desc := "(LPollAudit$Pair;)I" } : Jvm.MethodName)) ∈ lw_tbl := lw_at lw_m3 226 rfl
theorem q759 : (Jvm.Cond.instanceMethod ({ cls := "PollAudit", name := "margin", desc := "(LPollAudit$Pair;)I" } : Jvm.MethodName)) ∈ lw_all := lw_g (lw_at lw_m3 227 rfl) rfl
theorem q760 : (Jvm.Cond.code ({ cls := "PollAudit", name := "margin", desc := "(LPollAudit$Pair;)I" } : Jvm.MethodName) prog_1_method_7_code (2 : Nat) (Option.some Jvm.ClassFile.FieldType.int)) ∈ lw_all := lw_g (lw_at lw_m3 228 rfl) rfl
theorem q763 : (Jvm.Cond.privateMethod ({ cls := "PollAudit", name := "least", desc := "()I" } : Jvm.MethodName)) ∈ lw_tbl := lw_at lw_m3 231 rfl
theorem q764 : (Jvm.Cond.instanceMethod ({ cls := "PollAudit", name := "least", desc := "()I" } : Jvm.MethodName)) ∈ lw_all := lw_g (lw_at lw_m3 232 rfl) rfl
theorem q765 : (Jvm.Cond.code ({ cls := "PollAudit", name := "least", desc := "()I" } : Jvm.MethodName) prog_1_method_8_code (3 : Nat) (Option.some Jvm.ClassFile.FieldType.int)) ∈ lw_all := lw_g (lw_at lw_m3 233 rfl) rfl
theorem q766 : (Jvm.Cond.methodLink "PollAudit" (178 : Nat) ({ cls := "PollAudit", name := "margin", desc := "(LPollAudit$Pair;)I" } : Jvm.MethodName)) ∈ lw_all := lw_g (lw_at lw_m3 234 rfl) rfl
theorem q767 : (Jvm.Cond.methodLink "PollAudit" (185 : Nat) ({ cls := "java/lang/Math", name := "min", desc := "(II)I" } : Jvm.MethodName)) ∈ lw_all := lw_g (lw_at lw_m3 235 rfl) rfl
theorem q797 : (Jvm.Cond.privateMethod ({ cls := "PollAudit", name := "reaches", desc := "(LPollAudit$Big;LPollAudit$Big;)Z" } : Jvm.MethodName)) ∈ lw_tbl := lw_at lw_m4 25 rfl
theorem q798 : (Jvm.Cond.instanceMethod ({ cls := "PollAudit", name := "reaches", desc := "(LPollAudit$Big;LPollAudit$Big;)Z" } : Jvm.MethodName)) ∈ lw_all := lw_g (lw_at lw_m4 26 rfl) rfl
theorem q799 : (Jvm.Cond.code ({ cls := "PollAudit", name := "reaches", desc := "(LPollAudit$Big;LPollAudit$Big;)Z" } : Jvm.MethodName) prog_1_method_9_code (3 : Nat) (Option.some Jvm.ClassFile.FieldType.boolean)) ∈ lw_all := lw_g (lw_at lw_m4 27 rfl) rfl
theorem q800 : (Jvm.Cond.methodLink "PollAudit" (191 : Nat) ({ cls := "PollAudit$Big", name := "copy", desc := "(LPollAudit$Big;)V" } : Jvm.MethodName)) ∈ lw_all := lw_g (lw_at lw_m4 28 rfl) rfl
theorem q801 : (Jvm.Cond.methodLink "PollAudit" (195 : Nat) ({ cls := "PollAudit$Big", name := "times", desc := "(I)V" } : Jvm.MethodName)) ∈ lw_all := lw_g (lw_at lw_m4 29 rfl) rfl
theorem q802 : (Jvm.Cond.methodLink "PollAudit" (198 : Nat) ({ cls := "PollAudit$Big", name := "compare", desc := "(LPollAudit$Big;)I" } : Jvm.MethodName)) ∈ lw_all := lw_g (lw_at lw_m4 30 rfl) rfl
theorem q813 : (Jvm.Cond.interfaceEntry "PollAudit" (258 : Nat)) ∈ lw_tbl := lw_at lw_m4 41 rfl
theorem q814 : (Jvm.Cond.methodLink "PollAudit" (258 : Nat) ({ cls := "PollAudit$Test", name := "isSure", desc := "()Z" } : Jvm.MethodName)) ∈ lw_all := lw_g (lw_at lw_m4 42 rfl) rfl
theorem q833 : (Jvm.Cond.instanceMethod ({ cls := "PollAudit", name := "see", desc := "(I)I" } : Jvm.MethodName)) ∈ lw_all := lw_g (lw_at lw_m4 61 rfl) rfl
theorem q834 : (Jvm.Cond.selects "PollAudit" ({ cls := "PollAudit", name := "see", desc := "(I)I" } : Jvm.MethodName) ({ cls := "PollAudit", name := "see", desc := "(I)I" } : Jvm.MethodName)) ∈ lw_all := lw_g (lw_at lw_m4 62 rfl) rfl
theorem q835 : (Jvm.Cond.code ({ cls := "PollAudit", name := "see", desc := "(I)I" } : Jvm.MethodName) prog_1_method_22_code (2 : Nat) (Option.some Jvm.ClassFile.FieldType.int)) ∈ lw_all := lw_g (lw_at lw_m4 63 rfl) rfl
theorem q840 : (Jvm.Cond.instanceMethod ({ cls := "PollAudit", name := "counted", desc := "(II)I" } : Jvm.MethodName)) ∈ lw_all := lw_g (lw_at lw_m4 68 rfl) rfl
theorem q841 : (Jvm.Cond.selects "PollAudit" ({ cls := "PollAudit", name := "counted", desc := "(II)I" } : Jvm.MethodName) ({ cls := "PollAudit", name := "counted", desc := "(II)I" } : Jvm.MethodName)) ∈ lw_all := lw_g (lw_at lw_m4 69 rfl) rfl
theorem q842 : (Jvm.Cond.code ({ cls := "PollAudit", name := "counted", desc := "(II)I" } : Jvm.MethodName) prog_1_method_23_code (5 : Nat) (Option.some Jvm.ClassFile.FieldType.int)) ∈ lw_all := lw_g (lw_at lw_m4 70 rfl) rfl
theorem q847 : (Jvm.Cond.instanceMethod ({ cls := "PollAudit", name := "told", desc := "(I)I" } : Jvm.MethodName)) ∈ lw_all := lw_g (lw_at lw_m4 75 rfl) rfl
theorem q848 : (Jvm.Cond.selects "PollAudit" ({ cls := "PollAudit", name := "told", desc := "(I)I" } : Jvm.MethodName) ({ cls := "PollAudit", name := "told", desc := "(I)I" } : Jvm.MethodName)) ∈ lw_all := lw_g (lw_at lw_m4 76 rfl) rfl
theorem q849 : (Jvm.Cond.code ({ cls := "PollAudit", name := "told", desc := "(I)I" } : Jvm.MethodName) prog_1_method_26_code (2 : Nat) (Option.some Jvm.ClassFile.FieldType.int)) ∈ lw_all := lw_g (lw_at lw_m4 77 rfl) rfl
theorem q850 : (Jvm.Cond.methodLink "PollAudit" (280 : Nat) ({ cls := "PollAudit", name := "surePairs", desc := "()I" } : Jvm.MethodName)) ∈ lw_all := lw_g (lw_at lw_m4 78 rfl) rfl
theorem q851 : (Jvm.Cond.privateMethod ({ cls := "PollAudit", name := "surePairs", desc := "()I" } : Jvm.MethodName)) ∈ lw_tbl := lw_at lw_m4 79 rfl
theorem q852 : (Jvm.Cond.instanceMethod ({ cls := "PollAudit", name := "surePairs", desc := "()I" } : Jvm.MethodName)) ∈ lw_all := lw_g (lw_at lw_m4 80 rfl) rfl
theorem q853 : (Jvm.Cond.code ({ cls := "PollAudit", name := "surePairs", desc := "()I" } : Jvm.MethodName) prog_1_method_25_code (3 : Nat) (Option.some Jvm.ClassFile.FieldType.int)) ∈ lw_all := lw_g (lw_at lw_m4 81 rfl) rfl
theorem q854 : (Jvm.Cond.methodLink "PollAudit" (284 : Nat) ({ cls := "PollAudit$Coins", name := "many", desc := "(I)I" } : Jvm.MethodName)) ∈ lw_all := lw_g (lw_at lw_m4 82 rfl) rfl
theorem q859 : (Jvm.Cond.instanceMethod ({ cls := "PollAudit", name := "of", desc := "(II)I" } : Jvm.MethodName)) ∈ lw_all := lw_g (lw_at lw_m4 87 rfl) rfl
theorem q860 : (Jvm.Cond.selects "PollAudit" ({ cls := "PollAudit", name := "of", desc := "(II)I" } : Jvm.MethodName) ({ cls := "PollAudit", name := "of", desc := "(II)I" } : Jvm.MethodName)) ∈ lw_all := lw_g (lw_at lw_m4 88 rfl) rfl
theorem q861 : (Jvm.Cond.code ({ cls := "PollAudit", name := "of", desc := "(II)I" } : Jvm.MethodName) prog_1_method_27_code (3 : Nat) (Option.some Jvm.ClassFile.FieldType.int)) ∈ lw_all := lw_g (lw_at lw_m4 89 rfl) rfl
theorem q866 : (Jvm.Cond.instanceMethod ({ cls := "PollAudit", name := "pair", desc := "(II)I" } : Jvm.MethodName)) ∈ lw_all := lw_g (lw_at lw_m4 94 rfl) rfl
theorem q867 : (Jvm.Cond.selects "PollAudit" ({ cls := "PollAudit", name := "pair", desc := "(II)I" } : Jvm.MethodName) ({ cls := "PollAudit", name := "pair", desc := "(II)I" } : Jvm.MethodName)) ∈ lw_all := lw_g (lw_at lw_m4 95 rfl) rfl
theorem q868 : (Jvm.Cond.code ({ cls := "PollAudit", name := "pair", desc := "(II)I" } : Jvm.MethodName) prog_1_method_29_code (4 : Nat) (Option.some Jvm.ClassFile.FieldType.int)) ∈ lw_all := lw_g (lw_at lw_m4 96 rfl) rfl
theorem q869 : (Jvm.Cond.methodLink "PollAudit" (288 : Nat) ({ cls := "PollAudit", name := "pairIn", desc := "(I)LPollAudit$Pair;" } : Jvm.MethodName)) ∈ lw_all := lw_g (lw_at lw_m4 97 rfl) rfl
theorem q870 : (Jvm.Cond.privateMethod ({ cls := "PollAudit", name := "pairIn", desc := "(I)LPollAudit$Pair;" } : Jvm.MethodName)) ∈ lw_tbl := lw_at lw_m4 98 rfl
theorem q871 : (Jvm.Cond.instanceMethod ({ cls := "PollAudit", name := "pairIn", desc := "(I)LPollAudit$Pair;" } : Jvm.MethodName)) ∈ lw_all := lw_g (lw_at lw_m4 99 rfl) rfl
theorem q872 : (Jvm.Cond.code ({ cls := "PollAudit", name := "pairIn", desc := "(I)LPollAudit$Pair;" } : Jvm.MethodName) prog_1_method_28_code (2 : Nat) (Option.some (Jvm.ClassFile.FieldType.object "PollAudit$Pair"))) ∈ lw_all := lw_g (lw_at lw_m4 100 rfl) rfl
theorem q877 : (Jvm.Cond.instanceMethod ({ cls := "PollAudit", name := "ballot", desc := "(II)I" } : Jvm.MethodName)) ∈ lw_all := lw_g (lw_at lw_m4 105 rfl) rfl
theorem q878 : (Jvm.Cond.selects "PollAudit" ({ cls := "PollAudit", name := "ballot", desc := "(II)I" } : Jvm.MethodName) ({ cls := "PollAudit", name := "ballot", desc := "(II)I" } : Jvm.MethodName)) ∈ lw_all := lw_g (lw_at lw_m4 106 rfl) rfl
theorem q879 : (Jvm.Cond.code ({ cls := "PollAudit", name := "ballot", desc := "(II)I" } : Jvm.MethodName) prog_1_method_31_code (3 : Nat) (Option.some Jvm.ClassFile.FieldType.int)) ∈ lw_all := lw_g (lw_at lw_m4 107 rfl) rfl
theorem q880 : (Jvm.Cond.methodLink "PollAudit" (292 : Nat) ({ cls := "PollAudit", name := "batchOf", desc := "(I)I" } : Jvm.MethodName)) ∈ lw_all := lw_g (lw_at lw_m4 108 rfl) rfl
theorem q881 : (Jvm.Cond.privateMethod ({ cls := "PollAudit", name := "batchOf", desc := "(I)I" } : Jvm.MethodName)) ∈ lw_tbl := lw_at lw_m4 109 rfl
theorem q882 : (Jvm.Cond.instanceMethod ({ cls := "PollAudit", name := "batchOf", desc := "(I)I" } : Jvm.MethodName)) ∈ lw_all := lw_g (lw_at lw_m4 110 rfl) rfl
theorem q883 : (Jvm.Cond.code ({ cls := "PollAudit", name := "batchOf", desc := "(I)I" } : Jvm.MethodName) prog_1_method_30_code (4 : Nat) (Option.some Jvm.ClassFile.FieldType.int)) ∈ lw_all := lw_g (lw_at lw_m4 111 rfl) rfl
theorem q888 : (Jvm.Cond.instanceMethod ({ cls := "PollAudit", name := "digest", desc := "(II)I" } : Jvm.MethodName)) ∈ lw_all := lw_g (lw_at lw_m4 116 rfl) rfl
theorem q889 : (Jvm.Cond.selects "PollAudit" ({ cls := "PollAudit", name := "digest", desc := "(II)I" } : Jvm.MethodName) ({ cls := "PollAudit", name := "digest", desc := "(II)I" } : Jvm.MethodName)) ∈ lw_all := lw_g (lw_at lw_m4 117 rfl) rfl
theorem q890 : (Jvm.Cond.code ({ cls := "PollAudit", name := "digest", desc := "(II)I" } : Jvm.MethodName) prog_1_method_32_code (3 : Nat) (Option.some Jvm.ClassFile.FieldType.int)) ∈ lw_all := lw_g (lw_at lw_m4 118 rfl) rfl
theorem q891 : (Jvm.Cond.methodLink "PollAudit" (295 : Nat) ({ cls := "PollAudit$Seed", name := "work", desc := "(I)V" } : Jvm.MethodName)) ∈ lw_all := lw_g (lw_at lw_m4 119 rfl) rfl
theorem q892 : (Jvm.Cond.methodLink "PollAudit" (302 : Nat) ({ cls := "PollAudit$Digest", name := "byteAt", desc := "(I)I" } : Jvm.MethodName)) ∈ lw_all := lw_g (lw_at lw_m4 120 rfl) rfl
theorem q900 : (Jvm.Cond.instanceMethod ({ cls := "PollAudit", name := "risk", desc := "(IIIII)I" } : Jvm.MethodName)) ∈ lw_all := lw_g (lw_at lw_m4 128 rfl) rfl
theorem q901 : (Jvm.Cond.selects "PollAudit" ({ cls := "PollAudit", name := "risk", desc := "(IIIII)I" } : Jvm.MethodName) ({ cls := "PollAudit", name := "risk", desc := "(IIIII)I" } : Jvm.MethodName)) ∈ lw_all := lw_g (lw_at lw_m4 129 rfl) rfl
theorem q902 : (Jvm.Cond.code ({ cls := "PollAudit", name := "risk", desc := "(IIIII)I" } : Jvm.MethodName) prog_1_method_37_code (8 : Nat) (Option.some Jvm.ClassFile.FieldType.int)) ∈ lw_all := lw_g (lw_at lw_m4 130 rfl) rfl
theorem q903 : (Jvm.Cond.methodLink "PollAudit" (320 : Nat) ({ cls := "PollAudit", name := "findSure", desc := "(LPollAudit$Pair;I)V" } : Jvm.MethodName)) ∈ lw_all := lw_g (lw_at lw_m4 131 rfl) rfl
theorem q904 : (Jvm.Cond.privateMethod ({ cls := "PollAudit", name := "findSure", desc := "(LPollAudit$Pair;I)V" } : Jvm.MethodName)) ∈ lw_tbl := lw_at lw_m4 132 rfl
theorem q905 : (Jvm.Cond.instanceMethod ({ cls := "PollAudit", name := "findSure", desc := "(LPollAudit$Pair;I)V" } : Jvm.MethodName)) ∈ lw_all := lw_g (lw_at lw_m4 133 rfl) rfl
theorem q906 : (Jvm.Cond.code ({ cls := "PollAudit", name := "findSure", desc := "(LPollAudit$Pair;I)V" } : Jvm.MethodName) prog_1_method_34_code (6 : Nat) (Option.none : Option Jvm.ClassFile.FieldType)) ∈ lw_all := lw_g (lw_at lw_m4 134 rfl) rfl
theorem q907 : (Jvm.Cond.methodLink "PollAudit" (307 : Nat) ({ cls := "PollAudit", name := "at", desc := "(II)I" } : Jvm.MethodName)) ∈ lw_all := lw_g (lw_at lw_m4 135 rfl) rfl
theorem q908 : (Jvm.Cond.static ({ cls := "PollAudit", name := "at", desc := "(II)I" } : Jvm.MethodName)) ∈ lw_all := lw_g (lw_at lw_m4 136 rfl) rfl
theorem q909 : (Jvm.Cond.code ({ cls := "PollAudit", name := "at", desc := "(II)I" } : Jvm.MethodName) prog_1_method_33_code (2 : Nat) (Option.some Jvm.ClassFile.FieldType.int)) ∈ lw_all := lw_g (lw_at lw_m4 137 rfl) rfl
theorem q910 : (Jvm.Cond.methodLink "PollAudit" (310 : Nat) ({ cls := "PollAudit", name := "reaches", desc := "(LPollAudit$Big;LPollAudit$Big;)Z" } : Jvm.MethodName)) ∈ lw_all := lw_g (lw_at lw_m4 138 rfl) rfl
theorem q911 : (Jvm.Cond.methodLink "PollAudit" (324 : Nat) ({ cls := "PollAudit", name := "drawMore", desc := "(IIII)V" } : Jvm.MethodName)) ∈ lw_all := lw_g (lw_at lw_m4 139 rfl) rfl
theorem q912 : (Jvm.Cond.privateMethod ({ cls := "PollAudit", name := "drawMore", desc := "(IIII)V" } : Jvm.MethodName)) ∈ lw_tbl := lw_at lw_m4 140 rfl
theorem q913 : (Jvm.Cond.instanceMethod ({ cls := "PollAudit", name := "drawMore", desc := "(IIII)V" } : Jvm.MethodName)) ∈ lw_all := lw_g (lw_at lw_m4 141 rfl) rfl
theorem q914 : (Jvm.Cond.code ({ cls := "PollAudit", name := "drawMore", desc := "(IIII)V" } : Jvm.MethodName) prog_1_method_36_code (8 : Nat) (Option.none : Option Jvm.ClassFile.FieldType)) ∈ lw_all := lw_g (lw_at lw_m4 142 rfl) rfl
theorem q915 : (Jvm.Cond.methodLink "PollAudit" (316 : Nat) ({ cls := "PollAudit", name := "more", desc := "(LPollAudit$Big;LPollAudit$Big;I)V" } : Jvm.MethodName)) ∈ lw_all := lw_g (lw_at lw_m4 143 rfl) rfl
theorem q916 : (Jvm.Cond.privateMethod ({ cls := "PollAudit", name := "more", desc := "(LPollAudit$Big;LPollAudit$Big;I)V" } : Jvm.MethodName)) ∈ lw_tbl := lw_at lw_m4 144 rfl
theorem q917 : (Jvm.Cond.instanceMethod ({ cls := "PollAudit", name := "more", desc := "(LPollAudit$Big;LPollAudit$Big;I)V" } : Jvm.MethodName)) ∈ lw_all := lw_g (lw_at lw_m4 145 rfl) rfl
theorem q918 : (Jvm.Cond.code ({ cls := "PollAudit", name := "more", desc := "(LPollAudit$Big;LPollAudit$Big;I)V" } : Jvm.MethodName) prog_1_method_35_code (4 : Nat) (Option.none : Option Jvm.ClassFile.FieldType)) ∈ lw_all := lw_g (lw_at lw_m4 146 rfl) rfl
theorem q919 : (Jvm.Cond.methodLink "PollAudit" (314 : Nat) ({ cls := "PollAudit$Big", name := "add", desc := "(LPollAudit$Big;)V" } : Jvm.MethodName)) ∈ lw_all := lw_g (lw_at lw_m4 147 rfl) rfl
theorem q923 : (Jvm.Cond.methodLink "PollAudit" (328 : Nat) ({ cls := "PollAudit$Reckoner", name := "reduce", desc := "(LPollAudit$Big;LPollAudit$Big;)V" } : Jvm.MethodName)) ∈ lw_all := lw_g (lw_at lw_m4 151 rfl) rfl
theorem q980 : (Jvm.Cond.instanceMethod ({ cls := "PollAudit", name := "show", desc := "(II)Z" } : Jvm.MethodName)) ∈ lw_all := lw_g (lw_at lw_m4 208 rfl) rfl
theorem q981 : (Jvm.Cond.selects "PollAudit" ({ cls := "PollAudit", name := "show", desc := "(II)Z" } : Jvm.MethodName) ({ cls := "PollAudit", name := "show", desc := "(II)Z" } : Jvm.MethodName)) ∈ lw_all := lw_g (lw_at lw_m4 209 rfl) rfl
theorem q982 : (Jvm.Cond.code ({ cls := "PollAudit", name := "show", desc := "(II)Z" } : Jvm.MethodName) prog_1_method_38_code (4 : Nat) (Option.some Jvm.ClassFile.FieldType.boolean)) ∈ lw_all := lw_g (lw_at lw_m4 210 rfl) rfl
theorem q983 : (Jvm.Cond.methodLink "PollAudit" (340 : Nat) ({ cls := "PollAudit", name := "least", desc := "()I" } : Jvm.MethodName)) ∈ lw_all := lw_g (lw_at lw_m4 211 rfl) rfl
theorem q988 : (Jvm.Cond.instanceMethod ({ cls := "PollAudit", name := "size", desc := "(I)I" } : Jvm.MethodName)) ∈ lw_all := lw_g (lw_at lw_m4 216 rfl) rfl
theorem q989 : (Jvm.Cond.selects "PollAudit" ({ cls := "PollAudit", name := "size", desc := "(I)I" } : Jvm.MethodName) ({ cls := "PollAudit", name := "size", desc := "(I)I" } : Jvm.MethodName)) ∈ lw_all := lw_g (lw_at lw_m4 217 rfl) rfl
theorem q990 : (Jvm.Cond.code ({ cls := "PollAudit", name := "size", desc := "(I)I" } : Jvm.MethodName) prog_1_method_40_code (2 : Nat) (Option.some Jvm.ClassFile.FieldType.int)) ∈ lw_all := lw_g (lw_at lw_m4 218 rfl) rfl
theorem q991 : (Jvm.Cond.methodLink "PollAudit" (343 : Nat) ({ cls := "PollAudit", name := "part", desc := "(I)LPollAudit$Big;" } : Jvm.MethodName)) ∈ lw_all := lw_g (lw_at lw_m4 219 rfl) rfl
theorem q992 : (Jvm.Cond.privateMethod ({ cls := "PollAudit", name := "part", desc := "(I)LPollAudit$Big;" } : Jvm.MethodName)) ∈ lw_tbl := lw_at lw_m4 220 rfl
theorem q993 : (Jvm.Cond.instanceMethod ({ cls := "PollAudit", name := "part", desc := "(I)LPollAudit$Big;" } : Jvm.MethodName)) ∈ lw_all := lw_g (lw_at lw_m4 221 rfl) rfl
theorem q994 : (Jvm.Cond.code ({ cls := "PollAudit", name := "part", desc := "(I)LPollAudit$Big;" } : Jvm.MethodName) prog_1_method_39_code (2 : Nat) (Option.some (Jvm.ClassFile.FieldType.object "PollAudit$Big"))) ∈ lw_all := lw_g (lw_at lw_m4 222 rfl) rfl
theorem q999 : (Jvm.Cond.instanceMethod ({ cls := "PollAudit", name := "limb", desc := "(II)I" } : Jvm.MethodName)) ∈ lw_all := lw_g (lw_at lw_m4 227 rfl) rfl
theorem q1000 : (Jvm.Cond.selects "PollAudit" ({ cls := "PollAudit", name := "limb", desc := "(II)I" } : Jvm.MethodName) ({ cls := "PollAudit", name := "limb", desc := "(II)I" } : Jvm.MethodName)) ∈ lw_all := lw_g (lw_at lw_m4 228 rfl) rfl
theorem q1001 : (Jvm.Cond.code ({ cls := "PollAudit", name := "limb", desc := "(II)I" } : Jvm.MethodName) prog_1_method_41_code (4 : Nat) (Option.some Jvm.ClassFile.FieldType.int)) ∈ lw_all := lw_g (lw_at lw_m4 229 rfl) rfl
