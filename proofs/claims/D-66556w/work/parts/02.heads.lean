set_option maxRecDepth 100000
def RX1 : String := "PollAudit"
def TX1 : u_T := fun k => match k with
  | 0 => ("PollAudit", "votes", "[I", true)
  | 1 => ("PollAudit", "candidates", "I", false)
  | 2 => ("PollAudit", "sizes", "[I", true)
  | 3 => ("PollAudit", "batches", "I", false)
  | 4 => ("PollAudit", "ballots", "I", false)
  | 5 => ("PollAudit", "wins", "I", false)
  | 6 => ("PollAudit", "cap", "I", false)
  | 7 => ("PollAudit", "limitUp", "I", false)
  | 8 => ("PollAudit", "limitLow", "I", false)
  | 9 => ("PollAudit", "gammaUp", "I", false)
  | 10 => ("PollAudit", "gammaLow", "I", false)
  | 11 => ("PollAudit", "records", "[B", true)
  | 12 => ("PollAudit", "seen", "[B", true)
  | 13 => ("PollAudit", "drawn", "[S", true)
  | 14 => ("PollAudit", "isWinner", "[Z", true)
  | 15 => ("PollAudit", "tally", "[I", true)
  | 16 => ("PollAudit", "counts", "[I", true)
  | 17 => ("PollAudit", "stage", "I", false)
  | 18 => ("PollAudit", "draws", "I", false)
  | 19 => ("PollAudit", "different", "I", false)
  | 20 => ("PollAudit", "blanks", "I", false)
  | 21 => ("PollAudit", "wanted", "I", false)
  | 22 => ("PollAudit", "right", "Z", false)
  | 23 => ("PollAudit", "all", "[LPollAudit$Pair;", true)
  | 24 => ("PollAudit", "pairs", "I", false)
  | 25 => ("PollAudit", "coins", "LPollAudit$Coins;", true)
  | 26 => ("PollAudit", "seed", "LPollAudit$Seed;", true)
  | 27 => ("PollAudit", "source", "LPollAudit$Source;", false)
  | 28 => ("PollAudit", "polling", "LPollAudit$Polling;", true)
  | 29 => ("PollAudit", "comparing", "LPollAudit$Comparing;", true)
  | 30 => ("PollAudit", "test", "LPollAudit$Test;", false)
  | 31 => ("PollAudit", "reckoner", "LPollAudit$Reckoner;", true)
  | 32 => ("PollAudit", "one", "LPollAudit$Big;", true)
  | 33 => ("PollAudit", "two", "LPollAudit$Big;", true)
  | 34 => ("PollAudit", "shownAbove", "LPollAudit$Big;", true)
  | 35 => ("PollAudit", "shownBelow", "LPollAudit$Big;", true)
  | 36 => ("PollAudit", "ways", "[LPollAudit$Big;", true)
  | 37 => ("PollAudit", "next", "[LPollAudit$Big;", true)
  | 38 => ("PollAudit", "sure", "[Z", true)
  | 39 => ("PollAudit", "sum", "LPollAudit$Big;", true)
  | _ => ("PollAudit", "power", "LPollAudit$Big;", true)
def tyX1 : Nat → FieldType := fun k => match k with
  | 0 => .array .int
  | 1 => .int
  | 2 => .array .int
  | 3 => .int
  | 4 => .int
  | 5 => .int
  | 6 => .int
  | 7 => .int
  | 8 => .int
  | 9 => .int
  | 10 => .int
  | 11 => .array .byte
  | 12 => .array .byte
  | 13 => .array .short
  | 14 => .array .boolean
  | 15 => .array .int
  | 16 => .array .int
  | 17 => .int
  | 18 => .int
  | 19 => .int
  | 20 => .int
  | 21 => .int
  | 22 => .boolean
  | 23 => .array (.object "PollAudit$Pair")
  | 24 => .int
  | 25 => .object "PollAudit$Coins"
  | 26 => .object "PollAudit$Seed"
  | 27 => .object "PollAudit$Source"
  | 28 => .object "PollAudit$Polling"
  | 29 => .object "PollAudit$Comparing"
  | 30 => .object "PollAudit$Test"
  | 31 => .object "PollAudit$Reckoner"
  | 32 => .object "PollAudit$Big"
  | 33 => .object "PollAudit$Big"
  | 34 => .object "PollAudit$Big"
  | 35 => .object "PollAudit$Big"
  | 36 => .array (.object "PollAudit$Big")
  | 37 => .array (.object "PollAudit$Big")
  | 38 => .array .boolean
  | 39 => .object "PollAudit$Big"
  | _ => .object "PollAudit$Big"
abbrev wsX10 : List Cond := u_ws RX1 TX1 41
theorem nmX1 : ∀ a, a < 41 → ∀ b, b < 41 → a ≠ b → (TX1 a).2.1 ≠ (TX1 b).2.1 := by decide +kernel
theorem tyX1_ok : ∀ k, k < 41 → parseFieldDescriptor (TX1 k).2.2.1 = some (tyX1 k) := by decide +kernel
theorem in_X1 : ∀ w ∈ wsX10, w ∈ lw_all := lw_in wsX10 [343, 345, 347, 349, 351, 353, 355, 357, 359, 361, 363, 365, 367, 369, 371, 373, 375, 377, 379, 381, 383, 385, 387, 389, 391, 393, 395, 397, 399, 401, 403, 405, 407, 409, 411, 413, 415, 417, 419, 421, 423] (by decide +kernel) (by decide +kernel)
def RX10 : String := "PollAuditModel"
def TX10 : u_T := fun k => match k with
  | 0 => ("PollAuditModel", "code", "I", false)
  | 1 => ("PollAuditModel", "votes", "[I", true)
  | 2 => ("PollAuditModel", "candidates", "I", false)
  | 3 => ("PollAuditModel", "win", "I", false)
  | 4 => ("PollAuditModel", "cap", "I", false)
  | 5 => ("PollAuditModel", "batchFrom", "[I", true)
  | 6 => ("PollAuditModel", "batches", "I", false)
  | 7 => ("PollAuditModel", "ballots", "I", false)
  | 8 => ("PollAuditModel", "records", "[B", true)
  | 9 => ("PollAuditModel", "limitUp", "I", false)
  | 10 => ("PollAuditModel", "limitLow", "I", false)
  | 11 => ("PollAuditModel", "gammaUp", "I", false)
  | 12 => ("PollAuditModel", "gammaLow", "I", false)
  | 13 => ("PollAuditModel", "seed", "[I", true)
  | 14 => ("PollAuditModel", "digits", "I", false)
  | 15 => ("PollAuditModel", "coins", "[B", true)
  | 16 => ("PollAuditModel", "coinCount", "I", false)
  | 17 => ("PollAuditModel", "stage", "I", false)
  | 18 => ("PollAuditModel", "comparing", "Z", false)
  | 19 => ("PollAuditModel", "seeded", "Z", false)
  | 20 => ("PollAuditModel", "winner", "[Z", true)
  | 21 => ("PollAuditModel", "pairOf", "[I", true)
  | 22 => ("PollAuditModel", "pairTo", "[I", true)
  | 23 => ("PollAuditModel", "sureWith", "[I", true)
  | 24 => ("PollAuditModel", "pairs", "I", false)
  | 25 => ("PollAuditModel", "drawn", "[I", true)
  | 26 => ("PollAuditModel", "seen", "[B", true)
  | 27 => ("PollAuditModel", "times", "[I", true)
  | 28 => ("PollAuditModel", "draws", "I", false)
  | 29 => ("PollAuditModel", "different", "I", false)
  | 30 => ("PollAuditModel", "blanks", "I", false)
  | 31 => ("PollAuditModel", "waiting", "I", false)
  | 32 => ("PollAuditModel", "counts", "[I", true)
  | 33 => ("PollAuditModel", "right", "Z", false)
  | 34 => ("PollAuditModel", "big", "[I", true)
  | 35 => ("PollAuditModel", "size", "[I", true)
  | 36 => ("PollAuditModel", "odds", "[I", true)
  | 37 => ("PollAuditModel", "next", "[I", true)
  | 38 => ("PollAuditModel", "k", "[I", true)
  | 39 => ("PollAuditModel", "first", "[I", true)
  | 40 => ("PollAuditModel", "w", "[I", true)
  | 41 => ("PollAuditModel", "state", "[I", true)
  | 42 => ("PollAuditModel", "message", "[I", true)
  | 43 => ("PollAuditModel", "digest", "[I", true)
  | _ => ("PollAuditModel", "sure", "[Z", true)
def tyX10 : Nat → FieldType := fun k => match k with
  | 0 => .int
  | 1 => .array .int
  | 2 => .int
  | 3 => .int
  | 4 => .int
  | 5 => .array .int
  | 6 => .int
  | 7 => .int
  | 8 => .array .byte
  | 9 => .int
  | 10 => .int
  | 11 => .int
  | 12 => .int
  | 13 => .array .int
  | 14 => .int
  | 15 => .array .byte
  | 16 => .int
  | 17 => .int
  | 18 => .boolean
  | 19 => .boolean
  | 20 => .array .boolean
  | 21 => .array .int
  | 22 => .array .int
  | 23 => .array .int
  | 24 => .int
  | 25 => .array .int
  | 26 => .array .byte
  | 27 => .array .int
  | 28 => .int
  | 29 => .int
  | 30 => .int
  | 31 => .int
  | 32 => .array .int
  | 33 => .boolean
  | 34 => .array .int
  | 35 => .array .int
  | 36 => .array .int
  | 37 => .array .int
  | 38 => .array .int
  | 39 => .array .int
  | 40 => .array .int
  | 41 => .array .int
  | 42 => .array .int
  | 43 => .array .int
  | _ => .array .boolean
abbrev wsX100 : List Cond := u_ws RX10 TX10 45
theorem nmX10 : ∀ a, a < 45 → ∀ b, b < 45 → a ≠ b → (TX10 a).2.1 ≠ (TX10 b).2.1 := by decide +kernel
theorem tyX10_ok : ∀ k, k < 45 → parseFieldDescriptor (TX10 k).2.2.1 = some (tyX10 k) := by decide +kernel
theorem in_X10 : ∀ w ∈ wsX100, w ∈ lw_all := lw_in wsX100 [1135, 1137, 1139, 1141, 1143, 1145, 1147, 1149, 1151, 1153, 1155, 1157, 1159, 1161, 1163, 1165, 1167, 1169, 1171, 1173, 1175, 1177, 1179, 1181, 1183, 1185, 1187, 1189, 1191, 1193, 1195, 1197, 1199, 1201, 1203, 1205, 1207, 1209, 1211, 1213, 1215, 1217, 1219, 1221, 1223] (by decide +kernel) (by decide +kernel)
def RX2 : String := "PollAudit$Coins"
def TX2 : u_T := fun k => match k with
  | 0 => ("PollAudit$Coins", "row", "[Z", true)
  | 1 => ("PollAudit$Coins", "first", "I", false)
  | _ => ("PollAudit$Coins", "size", "I", false)
def tyX2 : Nat → FieldType := fun k => match k with
  | 0 => .array .boolean
  | 1 => .int
  | _ => .int
abbrev wsX20 : List Cond := u_ws RX2 TX2 3
theorem nmX2 : ∀ a, a < 3 → ∀ b, b < 3 → a ≠ b → (TX2 a).2.1 ≠ (TX2 b).2.1 := by decide +kernel
theorem tyX2_ok : ∀ k, k < 3 → parseFieldDescriptor (TX2 k).2.2.1 = some (tyX2 k) := by decide +kernel
theorem in_X2 : ∀ w ∈ wsX20, w ∈ lw_all := lw_in wsX20 [96, 98, 100] (by decide +kernel) (by decide +kernel)
def RX3 : String := "PollAudit$Seed"
def TX3 : u_T := fun k => match k with
  | 0 => ("PollAudit$Seed", "digits", "[I", true)
  | 1 => ("PollAudit$Seed", "size", "I", false)
  | _ => ("PollAudit$Seed", "digest", "LPollAudit$Digest;", true)
def tyX3 : Nat → FieldType := fun k => match k with
  | 0 => .array .int
  | 1 => .int
  | _ => .object "PollAudit$Digest"
abbrev wsX30 : List Cond := u_ws RX3 TX3 3
theorem nmX3 : ∀ a, a < 3 → ∀ b, b < 3 → a ≠ b → (TX3 a).2.1 ≠ (TX3 b).2.1 := by decide +kernel
theorem tyX3_ok : ∀ k, k < 3 → parseFieldDescriptor (TX3 k).2.2.1 = some (tyX3 k) := by decide +kernel
theorem in_X3 : ∀ w ∈ wsX30, w ∈ lw_all := lw_in wsX30 [141, 143, 145] (by decide +kernel) (by decide +kernel)
def RX4 : String := "PollAudit$Digest"
def TX4 : u_T := fun k => match k with
  | 0 => ("PollAudit$Digest", "state", "[I", true)
  | 1 => ("PollAudit$Digest", "work", "[I", true)
  | 2 => ("PollAudit$Digest", "words", "[I", true)
  | 3 => ("PollAudit$Digest", "message", "[B", true)
  | _ => ("PollAudit$Digest", "size", "I", false)
def tyX4 : Nat → FieldType := fun k => match k with
  | 0 => .array .int
  | 1 => .array .int
  | 2 => .array .int
  | 3 => .array .byte
  | _ => .int
abbrev wsX40 : List Cond := u_ws RX4 TX4 5
theorem nmX4 : ∀ a, a < 5 → ∀ b, b < 5 → a ≠ b → (TX4 a).2.1 ≠ (TX4 b).2.1 := by decide +kernel
theorem tyX4_ok : ∀ k, k < 5 → parseFieldDescriptor (TX4 k).2.2.1 = some (tyX4 k) := by decide +kernel
theorem in_X4 : ∀ w ∈ wsX40, w ∈ lw_all := lw_in wsX40 [124, 126, 128, 130, 132] (by decide +kernel) (by decide +kernel)
def RX5 : String := "PollAudit$Polling"
def TX5 : u_T := fun k => match k with
  | _ => ("PollAudit$Polling", "o", "LPollAudit;", true)
def tyX5 : Nat → FieldType := fun k => match k with
  | _ => .object "PollAudit"
abbrev wsX50 : List Cond := u_ws RX5 TX5 1
theorem nmX5 : ∀ a, a < 1 → ∀ b, b < 1 → a ≠ b → (TX5 a).2.1 ≠ (TX5 b).2.1 := by decide +kernel
theorem tyX5_ok : ∀ k, k < 1 → parseFieldDescriptor (TX5 k).2.2.1 = some (tyX5 k) := by decide +kernel
theorem in_X5 : ∀ w ∈ wsX50, w ∈ lw_all := lw_in wsX50 [155] (by decide +kernel) (by decide +kernel)
def RX6 : String := "PollAudit$Comparing"
def TX6 : u_T := fun k => match k with
  | 0 => ("PollAudit$Comparing", "o", "LPollAudit;", true)
  | 1 => ("PollAudit$Comparing", "above", "LPollAudit$Big;", true)
  | _ => ("PollAudit$Comparing", "below", "LPollAudit$Big;", true)
def tyX6 : Nat → FieldType := fun k => match k with
  | 0 => .object "PollAudit"
  | 1 => .object "PollAudit$Big"
  | _ => .object "PollAudit$Big"
abbrev wsX60 : List Cond := u_ws RX6 TX6 3
theorem nmX6 : ∀ a, a < 3 → ∀ b, b < 3 → a ≠ b → (TX6 a).2.1 ≠ (TX6 b).2.1 := by decide +kernel
theorem tyX6_ok : ∀ k, k < 3 → parseFieldDescriptor (TX6 k).2.2.1 = some (tyX6 k) := by decide +kernel
theorem in_X6 : ∀ w ∈ wsX60, w ∈ lw_all := lw_in wsX60 [184, 186, 188] (by decide +kernel) (by decide +kernel)
def RX7 : String := "PollAudit$Big"
def TX7 : u_T := fun k => match k with
  | 0 => ("PollAudit$Big", "cells", "[I", false)
  | _ => ("PollAudit$Big", "size", "I", false)
def tyX7 : Nat → FieldType := fun k => match k with
  | 0 => .array .int
  | _ => .int
abbrev wsX70 : List Cond := u_ws RX7 TX7 2
theorem nmX7 : ∀ a, a < 2 → ∀ b, b < 2 → a ≠ b → (TX7 a).2.1 ≠ (TX7 b).2.1 := by decide +kernel
theorem tyX7_ok : ∀ k, k < 2 → parseFieldDescriptor (TX7 k).2.2.1 = some (tyX7 k) := by decide +kernel
theorem in_X7 : ∀ w ∈ wsX70, w ∈ lw_all := lw_in wsX70 [174, 176] (by decide +kernel) (by decide +kernel)
def RX8 : String := "PollAudit$Reckoner"
def TX8 : u_T := fun k => match k with
  | 0 => ("PollAudit$Reckoner", "x", "LPollAudit$Big;", true)
  | 1 => ("PollAudit$Reckoner", "y", "LPollAudit$Big;", true)
  | 2 => ("PollAudit$Reckoner", "q", "LPollAudit$Big;", true)
  | 3 => ("PollAudit$Reckoner", "d", "LPollAudit$Big;", true)
  | 4 => ("PollAudit$Reckoner", "t", "LPollAudit$Big;", true)
  | 5 => ("PollAudit$Reckoner", "g", "LPollAudit$Big;", true)
  | 6 => ("PollAudit$Reckoner", "e", "LPollAudit$Big;", true)
  | 7 => ("PollAudit$Reckoner", "f", "LPollAudit$Big;", true)
  | 8 => ("PollAudit$Reckoner", "m", "LPollAudit$Big;", true)
  | 9 => ("PollAudit$Reckoner", "c", "LPollAudit$Big;", true)
  | _ => ("PollAudit$Reckoner", "\x72", "LPollAudit$Big;", true)
def tyX8 : Nat → FieldType := fun k => match k with
  | 0 => .object "PollAudit$Big"
  | 1 => .object "PollAudit$Big"
  | 2 => .object "PollAudit$Big"
  | 3 => .object "PollAudit$Big"
  | 4 => .object "PollAudit$Big"
  | 5 => .object "PollAudit$Big"
  | 6 => .object "PollAudit$Big"
  | 7 => .object "PollAudit$Big"
  | 8 => .object "PollAudit$Big"
  | 9 => .object "PollAudit$Big"
  | _ => .object "PollAudit$Big"
abbrev wsX80 : List Cond := u_ws RX8 TX8 11
theorem nmX8 : ∀ a, a < 11 → ∀ b, b < 11 → a ≠ b → (TX8 a).2.1 ≠ (TX8 b).2.1 := by decide +kernel
theorem tyX8_ok : ∀ k, k < 11 → parseFieldDescriptor (TX8 k).2.2.1 = some (tyX8 k) := by decide +kernel
theorem in_X8 : ∀ w ∈ wsX80, w ∈ lw_all := lw_in wsX80 [210, 212, 214, 216, 218, 220, 222, 224, 226, 228, 230] (by decide +kernel) (by decide +kernel)
def RX9 : String := "PollAudit$Pair"
def TX9 : u_T := fun k => match k with
  | 0 => ("PollAudit$Pair", "winner", "I", false)
  | 1 => ("PollAudit$Pair", "loser", "I", false)
  | 2 => ("PollAudit$Pair", "sure", "I", false)
  | 3 => ("PollAudit$Pair", "above", "LPollAudit$Big;", true)
  | _ => ("PollAudit$Pair", "below", "LPollAudit$Big;", true)
def tyX9 : Nat → FieldType := fun k => match k with
  | 0 => .int
  | 1 => .int
  | 2 => .int
  | 3 => .object "PollAudit$Big"
  | _ => .object "PollAudit$Big"
abbrev wsX90 : List Cond := u_ws RX9 TX9 5
theorem nmX9 : ∀ a, a < 5 → ∀ b, b < 5 → a ≠ b → (TX9 a).2.1 ≠ (TX9 b).2.1 := by decide +kernel
theorem tyX9_ok : ∀ k, k < 5 → parseFieldDescriptor (TX9 k).2.2.1 = some (tyX9 k) := by decide +kernel
theorem in_X9 : ∀ w ∈ wsX90, w ∈ lw_all := lw_in wsX90 [260, 262, 264, 266, 268] (by decide +kernel) (by decide +kernel)
