def R_Mod : String := "RangeSheetModel"
def F_Mod : u_T := fun k => match k with
  | 0 => ("RangeSheetModel", "thrown", "I", false)
  | 1 => ("RangeSheetModel", "cells", "I", false)
  | 2 => ("RangeSheetModel", "firstLow", "[I", true)
  | 3 => ("RangeSheetModel", "firstHigh", "[I", true)
  | 4 => ("RangeSheetModel", "relations", "I", false)
  | 5 => ("RangeSheetModel", "kind", "[I", true)
  | 6 => ("RangeSheetModel", "one", "[I", true)
  | 7 => ("RangeSheetModel", "two", "[I", true)
  | 8 => ("RangeSheetModel", "three", "[I", true)
  | 9 => ("RangeSheetModel", "good", "[Z", true)
  | 10 => ("RangeSheetModel", "rows", "[I", true)
  | 11 => ("RangeSheetModel", "rowX", "[I", true)
  | 12 => ("RangeSheetModel", "rowY", "[I", true)
  | 13 => ("RangeSheetModel", "entries", "I", false)
  | 14 => ("RangeSheetModel", "entryCell", "[I", true)
  | 15 => ("RangeSheetModel", "entryLow", "[I", true)
  | 16 => ("RangeSheetModel", "entryHigh", "[I", true)
  | 17 => ("RangeSheetModel", "forced", "I", false)
  | 18 => ("RangeSheetModel", "low", "[I", true)
  | 19 => ("RangeSheetModel", "high", "[I", true)
  | 20 => ("RangeSheetModel", "changed", "Z", false)
  | 21 => ("RangeSheetModel", "lowA", "I", false)
  | 22 => ("RangeSheetModel", "highA", "I", false)
  | 23 => ("RangeSheetModel", "lowB", "I", false)
  | 24 => ("RangeSheetModel", "highB", "I", false)
  | 25 => ("RangeSheetModel", "lowC", "I", false)
  | 26 => ("RangeSheetModel", "highC", "I", false)
  | 27 => ("RangeSheetModel", "seated", "[Z", true)
  | 28 => ("RangeSheetModel", "told", "I", false)
  | 29 => ("RangeSheetModel", "toldLow", "[I", true)
  | 30 => ("RangeSheetModel", "toldHigh", "[I", true)
  | 31 => ("RangeSheetModel", "steps", "I", false)
  | 32 => ("RangeSheetModel", "settled", "I", false)
  | 33 => ("RangeSheetModel", "setting", "[I", true)
  | 34 => ("RangeSheetModel", "tried", "[I", true)
  | _ => ("RangeSheetModel", "tries", "[I", true)
def t_Mod : Nat → FieldType := fun k => match k with
  | 0 => .int
  | 1 => .int
  | 2 => .array .int
  | 3 => .array .int
  | 4 => .int
  | 5 => .array .int
  | 6 => .array .int
  | 7 => .array .int
  | 8 => .array .int
  | 9 => .array .boolean
  | 10 => .array .int
  | 11 => .array .int
  | 12 => .array .int
  | 13 => .int
  | 14 => .array .int
  | 15 => .array .int
  | 16 => .array .int
  | 17 => .int
  | 18 => .array .int
  | 19 => .array .int
  | 20 => .boolean
  | 21 => .int
  | 22 => .int
  | 23 => .int
  | 24 => .int
  | 25 => .int
  | 26 => .int
  | 27 => .array .boolean
  | 28 => .int
  | 29 => .array .int
  | 30 => .array .int
  | 31 => .int
  | 32 => .int
  | 33 => .array .int
  | 34 => .array .int
  | _ => .array .int
theorem n_Mod : ∀ a, a < 36 → ∀ b, b < 36 → a ≠ b → (F_Mod a).2.1 ≠ (F_Mod b).2.1 := by decide +kernel
theorem t_Mod_ok : ∀ k, k < 36 → parseFieldDescriptor (F_Mod k).2.2.1 = some (t_Mod k) := by decide +kernel
set_option maxRecDepth 20000 in
theorem i_Mod : ∀ w ∈ u_ws R_Mod F_Mod 36, w ∈ TW := by decide +kernel
def R_Sht : String := "RangeSheet"
def F_Sht : u_T := fun k => match k with
  | 0 => ("RangeSheet", "first", "LRangeSheet$Box;", true)
  | 1 => ("RangeSheet", "cells", "I", false)
  | 2 => ("RangeSheet", "relations", "[LRangeSheet$Relation;", true)
  | 3 => ("RangeSheet", "relationCount", "I", false)
  | 4 => ("RangeSheet", "tables", "[LRangeSheet$Rows;", true)
  | 5 => ("RangeSheet", "entryCell", "[I", true)
  | 6 => ("RangeSheet", "entryLow", "[I", true)
  | 7 => ("RangeSheet", "entryHigh", "[I", true)
  | 8 => ("RangeSheet", "entries", "I", false)
  | 9 => ("RangeSheet", "force", "I", false)
  | 10 => ("RangeSheet", "narrowed", "LRangeSheet$Box;", true)
  | 11 => ("RangeSheet", "told", "I", false)
  | 12 => ("RangeSheet", "boxes", "[LRangeSheet$Box;", true)
  | 13 => ("RangeSheet", "limit", "I", false)
  | 14 => ("RangeSheet", "steps", "I", false)
  | 15 => ("RangeSheet", "leader", "I", false)
  | 16 => ("RangeSheet", "down", "Z", false)
  | 17 => ("RangeSheet", "setting", "[I", true)
  | _ => ("RangeSheet", "settled", "I", false)
def t_Sht : Nat → FieldType := fun k => match k with
  | 0 => .object "RangeSheet$Box"
  | 1 => .int
  | 2 => .array (.object "RangeSheet$Relation")
  | 3 => .int
  | 4 => .array (.object "RangeSheet$Rows")
  | 5 => .array .int
  | 6 => .array .int
  | 7 => .array .int
  | 8 => .int
  | 9 => .int
  | 10 => .object "RangeSheet$Box"
  | 11 => .int
  | 12 => .array (.object "RangeSheet$Box")
  | 13 => .int
  | 14 => .int
  | 15 => .int
  | 16 => .boolean
  | 17 => .array .int
  | _ => .int
theorem n_Sht : ∀ a, a < 19 → ∀ b, b < 19 → a ≠ b → (F_Sht a).2.1 ≠ (F_Sht b).2.1 := by decide +kernel
theorem t_Sht_ok : ∀ k, k < 19 → parseFieldDescriptor (F_Sht k).2.2.1 = some (t_Sht k) := by decide +kernel
set_option maxRecDepth 20000 in
theorem i_Sht : ∀ w ∈ u_ws R_Sht F_Sht 19, w ∈ TW := by decide +kernel
def R_Box : String := "RangeSheet$Box"
def F_Box : u_T := fun k => match k with
  | 0 => ("RangeSheet$Box", "low", "[I", true)
  | 1 => ("RangeSheet$Box", "high", "[I", true)
  | _ => ("RangeSheet$Box", "changed", "Z", false)
def t_Box : Nat → FieldType := fun k => match k with
  | 0 => .array .int
  | 1 => .array .int
  | _ => .boolean
theorem n_Box : ∀ a, a < 3 → ∀ b, b < 3 → a ≠ b → (F_Box a).2.1 ≠ (F_Box b).2.1 := by decide +kernel
theorem t_Box_ok : ∀ k, k < 3 → parseFieldDescriptor (F_Box k).2.2.1 = some (t_Box k) := by decide +kernel
set_option maxRecDepth 20000 in
theorem i_Box : ∀ w ∈ u_ws R_Box F_Box 3, w ∈ TW := by decide +kernel
def R_Rows : String := "RangeSheet$Rows"
def F_Rows : u_T := fun k => match k with
  | 0 => ("RangeSheet$Rows", "xs", "[I", true)
  | 1 => ("RangeSheet$Rows", "ys", "[I", true)
  | _ => ("RangeSheet$Rows", "count", "I", false)
def t_Rows : Nat → FieldType := fun k => match k with
  | 0 => .array .int
  | 1 => .array .int
  | _ => .int
theorem n_Rows : ∀ a, a < 3 → ∀ b, b < 3 → a ≠ b → (F_Rows a).2.1 ≠ (F_Rows b).2.1 := by decide +kernel
theorem t_Rows_ok : ∀ k, k < 3 → parseFieldDescriptor (F_Rows k).2.2.1 = some (t_Rows k) := by decide +kernel
set_option maxRecDepth 20000 in
theorem i_Rows : ∀ w ∈ u_ws R_Rows F_Rows 3, w ∈ TW := by decide +kernel
def R_AtMost : String := "RangeSheet$AtMost"
def F_AtMost : u_T := fun k => match k with
  | 0 => ("RangeSheet$AtMost", "a", "I", true)
  | 1 => ("RangeSheet$AtMost", "b", "I", true)
  | 2 => ("RangeSheet$AtMost", "n", "I", true)
  | _ => ("RangeSheet$Relation", "good", "Z", false)
def t_AtMost : Nat → FieldType := fun k => match k with
  | 0 => .int
  | 1 => .int
  | 2 => .int
  | _ => .boolean
theorem n_AtMost : ∀ a, a < 4 → ∀ b, b < 4 → a ≠ b → (F_AtMost a).2.1 ≠ (F_AtMost b).2.1 := by decide +kernel
theorem t_AtMost_ok : ∀ k, k < 4 → parseFieldDescriptor (F_AtMost k).2.2.1 = some (t_AtMost k) := by decide +kernel
set_option maxRecDepth 20000 in
theorem i_AtMost : ∀ w ∈ u_ws R_AtMost F_AtMost 4, w ∈ TW := by decide +kernel
def R_Different : String := "RangeSheet$Different"
def F_Different : u_T := fun k => match k with
  | 0 => ("RangeSheet$Different", "cells", "I", true)
  | _ => ("RangeSheet$Relation", "good", "Z", false)
def t_Different : Nat → FieldType := fun k => match k with
  | 0 => .int
  | _ => .boolean
theorem n_Different : ∀ a, a < 2 → ∀ b, b < 2 → a ≠ b → (F_Different a).2.1 ≠ (F_Different b).2.1 := by decide +kernel
theorem t_Different_ok : ∀ k, k < 2 → parseFieldDescriptor (F_Different k).2.2.1 = some (t_Different k) := by decide +kernel
set_option maxRecDepth 20000 in
theorem i_Different : ∀ w ∈ u_ws R_Different F_Different 2, w ∈ TW := by decide +kernel
def R_Lookup : String := "RangeSheet$Lookup"
def F_Lookup : u_T := fun k => match k with
  | 0 => ("RangeSheet$Lookup", "a", "I", true)
  | 1 => ("RangeSheet$Lookup", "b", "I", true)
  | 2 => ("RangeSheet$Lookup", "rows", "LRangeSheet$Rows;", true)
  | _ => ("RangeSheet$Relation", "good", "Z", false)
def t_Lookup : Nat → FieldType := fun k => match k with
  | 0 => .int
  | 1 => .int
  | 2 => .object "RangeSheet$Rows"
  | _ => .boolean
theorem n_Lookup : ∀ a, a < 4 → ∀ b, b < 4 → a ≠ b → (F_Lookup a).2.1 ≠ (F_Lookup b).2.1 := by decide +kernel
theorem t_Lookup_ok : ∀ k, k < 4 → parseFieldDescriptor (F_Lookup k).2.2.1 = some (t_Lookup k) := by decide +kernel
set_option maxRecDepth 20000 in
theorem i_Lookup : ∀ w ∈ u_ws R_Lookup F_Lookup 4, w ∈ TW := by decide +kernel
def R_Sum : String := "RangeSheet$Sum"
def F_Sum : u_T := fun k => match k with
  | 0 => ("RangeSheet$Three", "a", "I", true)
  | 1 => ("RangeSheet$Three", "b", "I", true)
  | 2 => ("RangeSheet$Three", "c", "I", true)
  | 3 => ("RangeSheet$Three", "lowA", "I", false)
  | 4 => ("RangeSheet$Three", "highA", "I", false)
  | 5 => ("RangeSheet$Three", "lowB", "I", false)
  | 6 => ("RangeSheet$Three", "highB", "I", false)
  | 7 => ("RangeSheet$Three", "lowC", "I", false)
  | 8 => ("RangeSheet$Three", "highC", "I", false)
  | _ => ("RangeSheet$Relation", "good", "Z", false)
def t_Sum : Nat → FieldType := fun k => match k with
  | 0 => .int
  | 1 => .int
  | 2 => .int
  | 3 => .int
  | 4 => .int
  | 5 => .int
  | 6 => .int
  | 7 => .int
  | 8 => .int
  | _ => .boolean
theorem n_Sum : ∀ a, a < 10 → ∀ b, b < 10 → a ≠ b → (F_Sum a).2.1 ≠ (F_Sum b).2.1 := by decide +kernel
theorem t_Sum_ok : ∀ k, k < 10 → parseFieldDescriptor (F_Sum k).2.2.1 = some (t_Sum k) := by decide +kernel
set_option maxRecDepth 20000 in
theorem i_Sum : ∀ w ∈ u_ws R_Sum F_Sum 10, w ∈ TW := by decide +kernel
def R_Product : String := "RangeSheet$Product"
def F_Product : u_T := fun k => match k with
  | 0 => ("RangeSheet$Three", "a", "I", true)
  | 1 => ("RangeSheet$Three", "b", "I", true)
  | 2 => ("RangeSheet$Three", "c", "I", true)
  | 3 => ("RangeSheet$Three", "lowA", "I", false)
  | 4 => ("RangeSheet$Three", "highA", "I", false)
  | 5 => ("RangeSheet$Three", "lowB", "I", false)
  | 6 => ("RangeSheet$Three", "highB", "I", false)
  | 7 => ("RangeSheet$Three", "lowC", "I", false)
  | 8 => ("RangeSheet$Three", "highC", "I", false)
  | _ => ("RangeSheet$Relation", "good", "Z", false)
def t_Product : Nat → FieldType := fun k => match k with
  | 0 => .int
  | 1 => .int
  | 2 => .int
  | 3 => .int
  | 4 => .int
  | 5 => .int
  | 6 => .int
  | 7 => .int
  | 8 => .int
  | _ => .boolean
theorem n_Product : ∀ a, a < 10 → ∀ b, b < 10 → a ≠ b → (F_Product a).2.1 ≠ (F_Product b).2.1 := by decide +kernel
theorem t_Product_ok : ∀ k, k < 10 → parseFieldDescriptor (F_Product k).2.2.1 = some (t_Product k) := by decide +kernel
set_option maxRecDepth 20000 in
theorem i_Product : ∀ w ∈ u_ws R_Product F_Product 10, w ∈ TW := by decide +kernel
def R_Quotient : String := "RangeSheet$Quotient"
def F_Quotient : u_T := fun k => match k with
  | 0 => ("RangeSheet$Three", "a", "I", true)
  | 1 => ("RangeSheet$Three", "b", "I", true)
  | 2 => ("RangeSheet$Three", "c", "I", true)
  | 3 => ("RangeSheet$Three", "lowA", "I", false)
  | 4 => ("RangeSheet$Three", "highA", "I", false)
  | 5 => ("RangeSheet$Three", "lowB", "I", false)
  | 6 => ("RangeSheet$Three", "highB", "I", false)
  | 7 => ("RangeSheet$Three", "lowC", "I", false)
  | 8 => ("RangeSheet$Three", "highC", "I", false)
  | _ => ("RangeSheet$Relation", "good", "Z", false)
def t_Quotient : Nat → FieldType := fun k => match k with
  | 0 => .int
  | 1 => .int
  | 2 => .int
  | 3 => .int
  | 4 => .int
  | 5 => .int
  | 6 => .int
  | 7 => .int
  | 8 => .int
  | _ => .boolean
theorem n_Quotient : ∀ a, a < 10 → ∀ b, b < 10 → a ≠ b → (F_Quotient a).2.1 ≠ (F_Quotient b).2.1 := by decide +kernel
theorem t_Quotient_ok : ∀ k, k < 10 → parseFieldDescriptor (F_Quotient k).2.2.1 = some (t_Quotient k) := by decide +kernel
set_option maxRecDepth 20000 in
theorem i_Quotient : ∀ w ∈ u_ws R_Quotient F_Quotient 10, w ∈ TW := by decide +kernel
def R_Lesser : String := "RangeSheet$Lesser"
def F_Lesser : u_T := fun k => match k with
  | 0 => ("RangeSheet$Three", "a", "I", true)
  | 1 => ("RangeSheet$Three", "b", "I", true)
  | 2 => ("RangeSheet$Three", "c", "I", true)
  | 3 => ("RangeSheet$Three", "lowA", "I", false)
  | 4 => ("RangeSheet$Three", "highA", "I", false)
  | 5 => ("RangeSheet$Three", "lowB", "I", false)
  | 6 => ("RangeSheet$Three", "highB", "I", false)
  | 7 => ("RangeSheet$Three", "lowC", "I", false)
  | 8 => ("RangeSheet$Three", "highC", "I", false)
  | _ => ("RangeSheet$Relation", "good", "Z", false)
def t_Lesser : Nat → FieldType := fun k => match k with
  | 0 => .int
  | 1 => .int
  | 2 => .int
  | 3 => .int
  | 4 => .int
  | 5 => .int
  | 6 => .int
  | 7 => .int
  | 8 => .int
  | _ => .boolean
theorem n_Lesser : ∀ a, a < 10 → ∀ b, b < 10 → a ≠ b → (F_Lesser a).2.1 ≠ (F_Lesser b).2.1 := by decide +kernel
theorem t_Lesser_ok : ∀ k, k < 10 → parseFieldDescriptor (F_Lesser k).2.2.1 = some (t_Lesser k) := by decide +kernel
set_option maxRecDepth 20000 in
theorem i_Lesser : ∀ w ∈ u_ws R_Lesser F_Lesser 10, w ∈ TW := by decide +kernel
def R_Greater : String := "RangeSheet$Greater"
def F_Greater : u_T := fun k => match k with
  | 0 => ("RangeSheet$Three", "a", "I", true)
  | 1 => ("RangeSheet$Three", "b", "I", true)
  | 2 => ("RangeSheet$Three", "c", "I", true)
  | 3 => ("RangeSheet$Three", "lowA", "I", false)
  | 4 => ("RangeSheet$Three", "highA", "I", false)
  | 5 => ("RangeSheet$Three", "lowB", "I", false)
  | 6 => ("RangeSheet$Three", "highB", "I", false)
  | 7 => ("RangeSheet$Three", "lowC", "I", false)
  | 8 => ("RangeSheet$Three", "highC", "I", false)
  | _ => ("RangeSheet$Relation", "good", "Z", false)
def t_Greater : Nat → FieldType := fun k => match k with
  | 0 => .int
  | 1 => .int
  | 2 => .int
  | 3 => .int
  | 4 => .int
  | 5 => .int
  | 6 => .int
  | 7 => .int
  | 8 => .int
  | _ => .boolean
theorem n_Greater : ∀ a, a < 10 → ∀ b, b < 10 → a ≠ b → (F_Greater a).2.1 ≠ (F_Greater b).2.1 := by decide +kernel
theorem t_Greater_ok : ∀ k, k < 10 → parseFieldDescriptor (F_Greater k).2.2.1 = some (t_Greater k) := by decide +kernel
set_option maxRecDepth 20000 in
theorem i_Greater : ∀ w ∈ u_ws R_Greater F_Greater 10, w ∈ TW := by decide +kernel
def R_If : String := "RangeSheet$If"
def F_If : u_T := fun k => match k with
  | 0 => ("RangeSheet$Three", "a", "I", true)
  | 1 => ("RangeSheet$Three", "b", "I", true)
  | 2 => ("RangeSheet$Three", "c", "I", true)
  | 3 => ("RangeSheet$Three", "lowA", "I", false)
  | 4 => ("RangeSheet$Three", "highA", "I", false)
  | 5 => ("RangeSheet$Three", "lowB", "I", false)
  | 6 => ("RangeSheet$Three", "highB", "I", false)
  | 7 => ("RangeSheet$Three", "lowC", "I", false)
  | 8 => ("RangeSheet$Three", "highC", "I", false)
  | _ => ("RangeSheet$Relation", "good", "Z", false)
def t_If : Nat → FieldType := fun k => match k with
  | 0 => .int
  | 1 => .int
  | 2 => .int
  | 3 => .int
  | 4 => .int
  | 5 => .int
  | 6 => .int
  | 7 => .int
  | 8 => .int
  | _ => .boolean
theorem n_If : ∀ a, a < 10 → ∀ b, b < 10 → a ≠ b → (F_If a).2.1 ≠ (F_If b).2.1 := by decide +kernel
theorem t_If_ok : ∀ k, k < 10 → parseFieldDescriptor (F_If k).2.2.1 = some (t_If k) := by decide +kernel
set_option maxRecDepth 20000 in
theorem i_If : ∀ w ∈ u_ws R_If F_If 10, w ∈ TW := by decide +kernel
abbrev classes : List vw_C := [(R_Mod, F_Mod, 36), (R_Sht, F_Sht, 19), (R_Box, F_Box, 3), (R_Rows, F_Rows, 3), (R_AtMost, F_AtMost, 4), (R_Different, F_Different, 2), (R_Lookup, F_Lookup, 4), (R_Sum, F_Sum, 10), (R_Product, F_Product, 10), (R_Quotient, F_Quotient, 10), (R_Lesser, F_Lesser, 10), (R_Greater, F_Greater, 10), (R_If, F_If, 10)]
abbrev tysA (cA : Nat → ClassId) : List (ClassId × FieldType) := [(cA 0, .int), (cA 1, .boolean), (cA 2, .long), (cA 3, .object "RangeSheet$Relation"), (cA 4, .object "RangeSheet$Rows"), (cA 5, .object "RangeSheet$Box")]
/-- what the tables say: their words; the numbers of the classes and array classes -/
def KE (D : va_G) (cA : Nat → ClassId) (U : State) : Prop := KT U ∧ va_K D classes (tysA cA) U
theorem KE.warm {D : va_G} {cA : Nat → ClassId} {s U : State} (h : KE D cA s) (hW : s.WarmedH U.vm) : KE D cA U := ⟨h.1.warm hW, h.2.moved hW.alike⟩
theorem KE.same {D : va_G} {cA : Nat → ClassId} {s U : State} (h : KE D cA s) (hv : s.vm = U.vm) : KE D cA U := h.warm (by rw [← hv]; exact State.WarmedH.refl s)
theorem KE.w {D : va_G} {cA : Nat → ClassId} {s : State} (h : KE D cA s) {w : Cond} (hw : w ∈ TW) {a : Array Value} : w.before a s = true := h.1 w hw a
theorem KE.ts {D : va_G} {cA : Nat → ClassId} {s : State} (h : KE D cA s) {a : Array Value} : ∀ w ∈ TW, w.before a s = true := fun w hw => h.1 w hw a
/-- the room of a method of level k -/
abbrev rl (k : Nat) : Room := { frames := k, cells := 0, slots := 0, locals := 60 * k }
/-- the end of a method that makes nothing: its answer and heap, and the frame -/
def Qc0 (Post : Option Value → Heap → Prop) (A : Nat → Prop) : Array Value → State → Outcome → State → Prop := fun _ st o t => (∃ r : Option Value, o = .returned r ∧ Post r t.heap) ∧ va_F A st t
/-- a contract: arguments, what the heap holds before, what it holds and what is answered behind, which cells may change -/
def Ct (l : Launch) (y : MethodName) (bytes : ByteArray) (maxL : Nat) (ret : Option FieldType) (k : Nat) (D : va_G) (cA : Nat → ClassId) (av : List Value) (Pre : Heap → Prop) (Post : Option Value → Heap → Prop) (A : Nat → Prop) : Prop :=
  Met l y [.code y bytes maxL ret] (rl k) (va_Pc av (fun U => KE D cA U ∧ Pre U.heap)) (Qc0 Post A) 0 0 A
theorem Ct.ofW {l : Launch} {y : MethodName} {bytes : ByteArray} {maxL : Nat} {ret : Option FieldType} {k : Nat} {D : va_G} {cA : Nat → ClassId} {av : List Value} {Pre : Heap → Prop} {Post : Option Value → Heap → Prop} {A : Nat → Prop}
    (hy : plainName y.cls = true) (hn : (lg_sl av).length ≤ maxL)
    (body : ∀ (p : Program) (e : Env) (s : State) (m : MethodId) (below : List Frame) (meth : Method) (c : Code), p.tables.exec = Jvm.exec → c.code = bytes → meth.sig.returnType = ret → c.maxLocals = maxL → meth.locks = false → s.vm.findClass y.cls = some m.cls → meth.name = y.name → KE D cA s → Pre s.heap →
      ∀ ls : Array Slot, lv_has ls maxL (lv_args 0 av) → W p l e (rl k) s m av.toArray below meth c s.heap [] 0 0 (MQ below (Qc0 Post A) av.toArray s 0 0 A) (F0 m 0 ls [])) : Ct l y bytes maxL ret k D cA av Pre Post A := by
  refine Met.ofW (cc := bytes) (maxL := maxL) (ret := ret) hy rfl ?_
  intro p e s m args below meth c s₁ B hml hv
  obtain ⟨rfl, hK, hP⟩ := hv
  have hl := lv_entry av (n := maxL) hn
  rw [lg_entry_eq]
  exact body p e s m below meth c B.exec B.bytes B.returns hml B.notSynchronized (findClass_of_methodNamed B.named) (name_of_methodNamed B.named B.method).1 hK hP _ hl
/-- a boolean as an int -/
def bi (b : Bool) : Int32 := if b then 1 else 0
theorem bi_t : bi true = 1 := rfl
theorem bi_f : bi false = 0 := rfl
theorem bi_or (a b : Bool) : bi a ||| bi b = bi (a || b) := by cases a <;> cases b <;> decide
theorem bi_and (a b : Bool) : bi a &&& bi b = bi (a && b) := by cases a <;> cases b <;> decide
theorem bi_nar (b : Bool) : narrow .boolean (.int (bi b)) = .int (bi b) := by cases b <;> rfl
theorem bi_fit (b : Bool) : fits .boolean (.int (bi b)) = true := by cases b <;> rfl
theorem bi_0 {b : Bool} : (bi b).toInt = 0 ↔ b = false := by cases b <;> decide
theorem bi_inj {a b : Bool} (h : bi a = bi b) : a = b := by cases a <;> cases b <;> first | rfl | (exact absurd h (by decide))
theorem i_add {x y : Int32} {a b : Int} (hx : x.toInt = a) (hy : y.toInt = b) (h1 : -2147483648 ≤ a + b) (h2 : a + b < 2147483648) : (x + y).toInt = a + b := by
  rw [Int32.toInt_add, hx, hy]
  exact Int.bmod_eq_of_le (by simpa using h1) (by simpa using h2)
theorem i_sub {x y : Int32} {a b : Int} (hx : x.toInt = a) (hy : y.toInt = b) (h1 : -2147483648 ≤ a - b) (h2 : a - b < 2147483648) : (x - y).toInt = a - b := by
  rw [Int32.toInt_sub, hx, hy]
  exact Int.bmod_eq_of_le (by simpa using h1) (by simpa using h2)
theorem i_mul {x y : Int32} {a b : Int} (hx : x.toInt = a) (hy : y.toInt = b) (h1 : -2147483648 ≤ a * b) (h2 : a * b < 2147483648) : (x * y).toInt = a * b := by
  rw [Int32.toInt_mul, hx, hy]
  exact Int.bmod_eq_of_le (by simpa using h1) (by simpa using h2)
theorem i_neg {x : Int32} {a : Int} (hx : x.toInt = a) (h1 : -2147483648 < a) (h2 : a < 2147483648) : (-x).toInt = -a := by
  rw [Int32.toInt_neg, hx]
  exact Int.bmod_eq_of_le (by simp; omega) (by simp; omega)
theorem i_rng (x : Int32) : -2147483648 ≤ x.toInt ∧ x.toInt < 2147483648 := ⟨x.le_toInt, x.toInt_lt⟩
theorem i_vpin {x : Int32} {a : Int} {n : Nat} (hx : x.toInt = a) (h1 : 0 ≤ a) (h2 : a < n) : vp_in x n := vp_in_iff.mpr ⟨by omega, by omega⟩
theorem i_nat {x : Int32} {j : Nat} (hx : x.toInt = (j : Int)) : x.toNatClampNeg = j := by
  rw [Int32.toNatClampNeg, hx]; rfl
theorem i_nI {j : Nat} (h : j < 2147483648) : (nI j).toInt = (j : Int) := nI_toInt h
section XR
variable {p : Program} {l : Launch} {e : Env} {R : Room} {s : State} {m : MethodId} {args : Array Value} {below : List Frame} {meth : Method} {c : Code} {H : Heap} {locs : List Loc} {cells slots : Nat} {Q : State → Prop}
variable {cc : ByteArray} {pc : Nat} {ls : Array Slot} {rest : List Value}
theorem x_add (hexec : p.tables.exec = Jvm.exec) (hb : c.code = cc) {x y : Int32} {a b : Int} (hdg : decode cc pc = .ok (.iadd, 1)) (hx : x.toInt = a) (hy : y.toInt = b) (hr : -2147483648 ≤ a + b ∧ a + b < 2147483648)
    (k : ∀ z : Int32, z.toInt = a + b → W p l e R s m args below meth c H locs cells slots Q (F0 m (pc + 1) ls (.int z :: rest))) : W p l e R s m args below meth c H locs cells slots Q (F0 m pc ls (.int y :: .int x :: rest)) :=
  lv_iadd hexec hb hdg (k _ (i_add hx hy hr.1 hr.2))
theorem x_sub (hexec : p.tables.exec = Jvm.exec) (hb : c.code = cc) {x y : Int32} {a b : Int} (hdg : decode cc pc = .ok (.isub, 1)) (hx : x.toInt = a) (hy : y.toInt = b) (hr : -2147483648 ≤ a - b ∧ a - b < 2147483648)
    (k : ∀ z : Int32, z.toInt = a - b → W p l e R s m args below meth c H locs cells slots Q (F0 m (pc + 1) ls (.int z :: rest))) : W p l e R s m args below meth c H locs cells slots Q (F0 m pc ls (.int y :: .int x :: rest)) :=
  lv_isub hexec hb hdg (k _ (i_sub hx hy hr.1 hr.2))
theorem x_mul (hexec : p.tables.exec = Jvm.exec) (hb : c.code = cc) {x y : Int32} {a b : Int} (hdg : decode cc pc = .ok (.imul, 1)) (hx : x.toInt = a) (hy : y.toInt = b) (hr : -2147483648 ≤ a * b ∧ a * b < 2147483648)
    (k : ∀ z : Int32, z.toInt = a * b → W p l e R s m args below meth c H locs cells slots Q (F0 m (pc + 1) ls (.int z :: rest))) : W p l e R s m args below meth c H locs cells slots Q (F0 m pc ls (.int y :: .int x :: rest)) :=
  lv_imul hexec hb hdg (k _ (i_mul hx hy hr.1 hr.2))
theorem x_neg (hexec : p.tables.exec = Jvm.exec) (hb : c.code = cc) {x : Int32} {a : Int} (hdg : decode cc pc = .ok (.ineg, 1)) (hx : x.toInt = a) (hr : -2147483648 < a ∧ a < 2147483648)
    (k : ∀ z : Int32, z.toInt = -a → W p l e R s m args below meth c H locs cells slots Q (F0 m (pc + 1) ls (.int z :: rest))) : W p l e R s m args below meth c H locs cells slots Q (F0 m pc ls (.int x :: rest)) :=
  lv_ineg hexec hb hdg (k _ (i_neg hx hr.1 hr.2))
theorem x_iinc (hexec : p.tables.exec = Jvm.exec) (hb : c.code = cc) {i nL k : Nat} {n : Int} {x : Int32} {a : Int} {lv : List (Nat × Value)} {lv' : Int32 → List (Nat × Value)} (hdg : decode cc pc = .ok (.iinc i n, 3)) (h : lv_has ls nL lv) (hk : lv[k]? = some (i, .int x)) (hx : x.toInt = a) (hn' : (Int32.ofInt n).toInt = n) (hr : -2147483648 ≤ a + n ∧ a + n < 2147483648) (hn : i < nL) (hl : ∀ v, (i, Value.int v) :: lv.filter (fun q => !(q.1 == i) && !(q.1 + 1 == i && q.2.category == 2)) = lv' v)
    (kk : ∀ (z : Int32), z.toInt = a + n → ∀ ls' : Array Slot, lv_has ls' nL (lv' z) → W p l e R s m args below meth c H locs cells slots Q (F0 m (pc + 3) ls' rest)) : W p l e R s m args below meth c H locs cells slots Q (F0 m pc ls rest) :=
  lv_iinc (v := x + Int32.ofInt n) hexec hb hdg h hk rfl hn (hl _) (kk _ (i_add hx hn' hr.1 hr.2))
theorem q_lt {x y : Int32} {a b : Int} (hx : x.toInt = a) (hy : y.toInt = b) : x < y ↔ a < b := by rw [Int32.lt_iff_toInt_lt, hx, hy]
theorem q_le {x y : Int32} {a b : Int} (hx : x.toInt = a) (hy : y.toInt = b) : x ≤ y ↔ a ≤ b := by rw [Int32.le_iff_toInt_le, hx, hy]
theorem q_eq {x y : Int32} {a b : Int} (hx : x.toInt = a) (hy : y.toInt = b) : x = y ↔ a = b := by rw [← Int32.toInt_inj, hx, hy]
theorem q_0 : (0 : Int32).toInt = 0 := by decide
theorem b_icmp_eq (hexec : p.tables.exec = Jvm.exec) (hb : c.code = cc) {x y : Int32} {a b : Int} {off : Int} {tgt : Nat} (hdg : decode cc pc = .ok (.if_icmp .eq off, 3)) (ht : (pc : Int) + off = (tgt : Int)) (hx : x.toInt = a) (hy : y.toInt = b)
    (kt : a = b → W p l e R s m args below meth c H locs cells slots Q (F0 m tgt ls rest)) (kf : ¬ a = b → W p l e R s m args below meth c H locs cells slots Q (F0 m (pc + 3) ls rest)) : W p l e R s m args below meth c H locs cells slots Q (F0 m pc ls (.int y :: .int x :: rest)) :=
  lv_icmp_eq hexec hb hdg ht (fun h => kt ((q_eq hx hy).mp h)) (fun h => kf (fun z => h ((q_eq hx hy).mpr z)))
theorem b_icmp_ne (hexec : p.tables.exec = Jvm.exec) (hb : c.code = cc) {x y : Int32} {a b : Int} {off : Int} {tgt : Nat} (hdg : decode cc pc = .ok (.if_icmp .ne off, 3)) (ht : (pc : Int) + off = (tgt : Int)) (hx : x.toInt = a) (hy : y.toInt = b)
    (kt : ¬ a = b → W p l e R s m args below meth c H locs cells slots Q (F0 m tgt ls rest)) (kf : a = b → W p l e R s m args below meth c H locs cells slots Q (F0 m (pc + 3) ls rest)) : W p l e R s m args below meth c H locs cells slots Q (F0 m pc ls (.int y :: .int x :: rest)) :=
  lv_icmp_ne hexec hb hdg ht (fun h => kt (fun z => h ((q_eq hx hy).mpr z))) (fun h => kf ((q_eq hx hy).mp h))
theorem b_icmp_lt (hexec : p.tables.exec = Jvm.exec) (hb : c.code = cc) {x y : Int32} {a b : Int} {off : Int} {tgt : Nat} (hdg : decode cc pc = .ok (.if_icmp .lt off, 3)) (ht : (pc : Int) + off = (tgt : Int)) (hx : x.toInt = a) (hy : y.toInt = b)
    (kt : a < b → W p l e R s m args below meth c H locs cells slots Q (F0 m tgt ls rest)) (kf : b ≤ a → W p l e R s m args below meth c H locs cells slots Q (F0 m (pc + 3) ls rest)) : W p l e R s m args below meth c H locs cells slots Q (F0 m pc ls (.int y :: .int x :: rest)) :=
  lv_icmp_lt hexec hb hdg ht (fun h => kt ((q_lt hx hy).mp h)) (fun h => kf (Int.not_lt.mp (fun z => h ((q_lt hx hy).mpr z))))
theorem b_icmp_ge (hexec : p.tables.exec = Jvm.exec) (hb : c.code = cc) {x y : Int32} {a b : Int} {off : Int} {tgt : Nat} (hdg : decode cc pc = .ok (.if_icmp .ge off, 3)) (ht : (pc : Int) + off = (tgt : Int)) (hx : x.toInt = a) (hy : y.toInt = b)
    (kt : b ≤ a → W p l e R s m args below meth c H locs cells slots Q (F0 m tgt ls rest)) (kf : a < b → W p l e R s m args below meth c H locs cells slots Q (F0 m (pc + 3) ls rest)) : W p l e R s m args below meth c H locs cells slots Q (F0 m pc ls (.int y :: .int x :: rest)) :=
  lv_icmp_ge hexec hb hdg ht (fun h => kt ((q_le hy hx).mp h)) (fun h => kf (Int.not_le.mp (fun z => h ((q_le hy hx).mpr z))))
theorem b_icmp_gt (hexec : p.tables.exec = Jvm.exec) (hb : c.code = cc) {x y : Int32} {a b : Int} {off : Int} {tgt : Nat} (hdg : decode cc pc = .ok (.if_icmp .gt off, 3)) (ht : (pc : Int) + off = (tgt : Int)) (hx : x.toInt = a) (hy : y.toInt = b)
    (kt : b < a → W p l e R s m args below meth c H locs cells slots Q (F0 m tgt ls rest)) (kf : a ≤ b → W p l e R s m args below meth c H locs cells slots Q (F0 m (pc + 3) ls rest)) : W p l e R s m args below meth c H locs cells slots Q (F0 m pc ls (.int y :: .int x :: rest)) :=
  lv_icmp_gt hexec hb hdg ht (fun h => kt ((q_lt hy hx).mp h)) (fun h => kf (Int.not_lt.mp (fun z => h ((q_lt hy hx).mpr z))))
theorem b_icmp_le (hexec : p.tables.exec = Jvm.exec) (hb : c.code = cc) {x y : Int32} {a b : Int} {off : Int} {tgt : Nat} (hdg : decode cc pc = .ok (.if_icmp .le off, 3)) (ht : (pc : Int) + off = (tgt : Int)) (hx : x.toInt = a) (hy : y.toInt = b)
    (kt : a ≤ b → W p l e R s m args below meth c H locs cells slots Q (F0 m tgt ls rest)) (kf : b < a → W p l e R s m args below meth c H locs cells slots Q (F0 m (pc + 3) ls rest)) : W p l e R s m args below meth c H locs cells slots Q (F0 m pc ls (.int y :: .int x :: rest)) :=
  lv_icmp_le hexec hb hdg ht (fun h => kt ((q_le hx hy).mp h)) (fun h => kf (Int.not_le.mp (fun z => h ((q_le hx hy).mpr z))))
theorem b_if_eq (hexec : p.tables.exec = Jvm.exec) (hb : c.code = cc) {x : Int32} {a : Int} {off : Int} {tgt : Nat} (hdg : decode cc pc = .ok (.ifCond .eq off, 3)) (ht : (pc : Int) + off = (tgt : Int)) (hx : x.toInt = a)
    (kt : a = 0 → W p l e R s m args below meth c H locs cells slots Q (F0 m tgt ls rest)) (kf : ¬ a = 0 → W p l e R s m args below meth c H locs cells slots Q (F0 m (pc + 3) ls rest)) : W p l e R s m args below meth c H locs cells slots Q (F0 m pc ls (.int x :: rest)) :=
  lv_if_eq hexec hb hdg ht (fun h => kt ((q_eq hx q_0).mp h)) (fun h => kf (fun z => h ((q_eq hx q_0).mpr z)))
theorem b_if_ne (hexec : p.tables.exec = Jvm.exec) (hb : c.code = cc) {x : Int32} {a : Int} {off : Int} {tgt : Nat} (hdg : decode cc pc = .ok (.ifCond .ne off, 3)) (ht : (pc : Int) + off = (tgt : Int)) (hx : x.toInt = a)
    (kt : ¬ a = 0 → W p l e R s m args below meth c H locs cells slots Q (F0 m tgt ls rest)) (kf : a = 0 → W p l e R s m args below meth c H locs cells slots Q (F0 m (pc + 3) ls rest)) : W p l e R s m args below meth c H locs cells slots Q (F0 m pc ls (.int x :: rest)) :=
  lv_if_ne hexec hb hdg ht (fun h => kt (fun z => h ((q_eq hx q_0).mpr z))) (fun h => kf ((q_eq hx q_0).mp h))
theorem b_if_lt (hexec : p.tables.exec = Jvm.exec) (hb : c.code = cc) {x : Int32} {a : Int} {off : Int} {tgt : Nat} (hdg : decode cc pc = .ok (.ifCond .lt off, 3)) (ht : (pc : Int) + off = (tgt : Int)) (hx : x.toInt = a)
    (kt : a < 0 → W p l e R s m args below meth c H locs cells slots Q (F0 m tgt ls rest)) (kf : 0 ≤ a → W p l e R s m args below meth c H locs cells slots Q (F0 m (pc + 3) ls rest)) : W p l e R s m args below meth c H locs cells slots Q (F0 m pc ls (.int x :: rest)) :=
  lv_if_lt hexec hb hdg ht (fun h => kt ((q_lt hx q_0).mp h)) (fun h => kf (Int.not_lt.mp (fun z => h ((q_lt hx q_0).mpr z))))
theorem b_if_ge (hexec : p.tables.exec = Jvm.exec) (hb : c.code = cc) {x : Int32} {a : Int} {off : Int} {tgt : Nat} (hdg : decode cc pc = .ok (.ifCond .ge off, 3)) (ht : (pc : Int) + off = (tgt : Int)) (hx : x.toInt = a)
    (kt : 0 ≤ a → W p l e R s m args below meth c H locs cells slots Q (F0 m tgt ls rest)) (kf : a < 0 → W p l e R s m args below meth c H locs cells slots Q (F0 m (pc + 3) ls rest)) : W p l e R s m args below meth c H locs cells slots Q (F0 m pc ls (.int x :: rest)) :=
  lv_if_ge hexec hb hdg ht (fun h => kt ((q_le q_0 hx).mp h)) (fun h => kf (Int.not_le.mp (fun z => h ((q_le q_0 hx).mpr z))))
theorem b_if_gt (hexec : p.tables.exec = Jvm.exec) (hb : c.code = cc) {x : Int32} {a : Int} {off : Int} {tgt : Nat} (hdg : decode cc pc = .ok (.ifCond .gt off, 3)) (ht : (pc : Int) + off = (tgt : Int)) (hx : x.toInt = a)
    (kt : 0 < a → W p l e R s m args below meth c H locs cells slots Q (F0 m tgt ls rest)) (kf : a ≤ 0 → W p l e R s m args below meth c H locs cells slots Q (F0 m (pc + 3) ls rest)) : W p l e R s m args below meth c H locs cells slots Q (F0 m pc ls (.int x :: rest)) :=
  lv_if_gt hexec hb hdg ht (fun h => kt ((q_lt q_0 hx).mp h)) (fun h => kf (Int.not_lt.mp (fun z => h ((q_lt q_0 hx).mpr z))))
theorem b_if_le (hexec : p.tables.exec = Jvm.exec) (hb : c.code = cc) {x : Int32} {a : Int} {off : Int} {tgt : Nat} (hdg : decode cc pc = .ok (.ifCond .le off, 3)) (ht : (pc : Int) + off = (tgt : Int)) (hx : x.toInt = a)
    (kt : a ≤ 0 → W p l e R s m args below meth c H locs cells slots Q (F0 m tgt ls rest)) (kf : 0 < a → W p l e R s m args below meth c H locs cells slots Q (F0 m (pc + 3) ls rest)) : W p l e R s m args below meth c H locs cells slots Q (F0 m pc ls (.int x :: rest)) :=
  lv_if_le hexec hb hdg ht (fun h => kt ((q_le hx q_0).mp h)) (fun h => kf (Int.not_le.mp (fun z => h ((q_le hx q_0).mpr z))))
theorem b_bool_eq (hexec : p.tables.exec = Jvm.exec) (hb : c.code = cc) {b : Bool} {off : Int} {tgt : Nat} (hdg : decode cc pc = .ok (.ifCond .eq off, 3)) (ht : (pc : Int) + off = (tgt : Int))
    (kt : b = false → W p l e R s m args below meth c H locs cells slots Q (F0 m tgt ls rest)) (kf : b = true → W p l e R s m args below meth c H locs cells slots Q (F0 m (pc + 3) ls rest)) : W p l e R s m args below meth c H locs cells slots Q (F0 m pc ls (.int (bi b) :: rest)) :=
  lv_if_eq hexec hb hdg ht (fun h => kt (by cases b <;> first | rfl | exact absurd h (by decide))) (fun h => kf (by cases b <;> first | rfl | exact absurd h (by decide)))
theorem b_bool_ne (hexec : p.tables.exec = Jvm.exec) (hb : c.code = cc) {b : Bool} {off : Int} {tgt : Nat} (hdg : decode cc pc = .ok (.ifCond .ne off, 3)) (ht : (pc : Int) + off = (tgt : Int))
    (kt : b = true → W p l e R s m args below meth c H locs cells slots Q (F0 m tgt ls rest)) (kf : b = false → W p l e R s m args below meth c H locs cells slots Q (F0 m (pc + 3) ls rest)) : W p l e R s m args below meth c H locs cells slots Q (F0 m pc ls (.int (bi b) :: rest)) :=
  lv_if_ne hexec hb hdg ht (fun h => kt (by cases b <;> first | rfl | exact absurd h (by decide))) (fun h => kf (by cases b <;> first | rfl | exact absurd h (by decide)))
theorem x_or (hexec : p.tables.exec = Jvm.exec) (hb : c.code = cc) {a b : Bool} (hdg : decode cc pc = .ok (.ior, 1)) (k : W p l e R s m args below meth c H locs cells slots Q (F0 m (pc + 1) ls (.int (bi (a || b)) :: rest))) : W p l e R s m args below meth c H locs cells slots Q (F0 m pc ls (.int (bi b) :: .int (bi a) :: rest)) := lv_ior hexec hb hdg (by rw [bi_or]; exact k)
theorem x_and (hexec : p.tables.exec = Jvm.exec) (hb : c.code = cc) {a b : Bool} (hdg : decode cc pc = .ok (.iand, 1)) (k : W p l e R s m args below meth c H locs cells slots Q (F0 m (pc + 1) ls (.int (bi (a && b)) :: rest))) : W p l e R s m args below meth c H locs cells slots Q (F0 m pc ls (.int (bi b) :: .int (bi a) :: rest)) := lv_iand hexec hb hdg (by rw [bi_and]; exact k)
theorem ret_i (hexec : p.tables.exec = Jvm.exec) (hb : c.code = cc) {Post : Option Value → Heap → Prop} {A : Nat → Prop} {v : Int32} (hr : meth.sig.returnType = some .int) (hlocks : meth.locks = false) (hS : va_S A s.heap H locs) (hdg : decode cc pc = .ok (.ireturn, 1)) (hq : Post (some (.int v)) H) :
    W p l e R s m args below meth c H locs cells slots (MQ below (Qc0 Post A) args s cells slots A) (F0 m pc ls [.int v]) := W.iret hexec hb hr (fun t ht hW => ⟨⟨_, rfl, by rw [ht]; exact hq⟩, hS.F ht⟩) hS.2.2 hdg hlocks
theorem ret_z (hexec : p.tables.exec = Jvm.exec) (hb : c.code = cc) {Post : Option Value → Heap → Prop} {A : Nat → Prop} {b : Bool} (hr : meth.sig.returnType = some .boolean) (hlocks : meth.locks = false) (hS : va_S A s.heap H locs) (hdg : decode cc pc = .ok (.ireturn, 1)) (hq : Post (some (.int (bi b))) H) :
    W p l e R s m args below meth c H locs cells slots (MQ below (Qc0 Post A) args s cells slots A) (F0 m pc ls [.int (bi b)]) := W.zret hexec hb hr (bi_nar b) (fun t ht hW => ⟨⟨_, rfl, by rw [ht]; exact hq⟩, hS.F ht⟩) hS.2.2 hdg hlocks
theorem ret_v (hexec : p.tables.exec = Jvm.exec) (hb : c.code = cc) {Post : Option Value → Heap → Prop} {A : Nat → Prop} (hr : meth.sig.returnType = none) (hlocks : meth.locks = false) (hS : va_S A s.heap H locs) (hdg : decode cc pc = .ok (.return_, 1)) (hq : Post none H) :
    W p l e R s m args below meth c H locs cells slots (MQ below (Qc0 Post A) args s cells slots A) (F0 m pc ls []) := W.vret hexec hb hr (fun t ht hW => ⟨⟨_, rfl, by rw [ht]; exact hq⟩, hS.F ht⟩) hS.2.2 hdg hlocks
theorem c_go {st0 : List Value} {a : Array Value} {A0 A1 : Nat → Prop} {H0 : Heap} {Post : Option Value → Heap → Prop} (hr : va_Run p l e R s m args below meth c H locs cells slots 0 0 (F0 m pc ls st0) rest (Qc0 Post A1 a) A1) (hS : va_S A0 H0 H locs) (hA : ∀ q, A1 q → A0 q)
    (kk : ∀ (r : Option Value) (H1 : Heap) (locs1 : List Loc), Post r H1 → (∀ q : Nat, q < H.size → ¬ A1 q → H1[q]? = H[q]?) → va_S A0 H0 H1 locs1 → W p l e R s m args below meth c H1 locs1 cells slots Q (F0 m (pc + 3) ls (r.toList ++ rest))) : W p l e R s m args below meth c H locs cells slots Q (F0 m pc ls st0) := by
  intro T hT X
  obtain ⟨v, st₀, t, T', L, h0, X', hL, e1, e2, ⟨⟨r, hv, hp⟩, hz, hk⟩, st⟩ := hr T hT X
  cases hv
  rw [h0] at hz hk
  obtain ⟨t2, a1, b1⟩ := kk v T'.heap (locs ++ L) (by rw [e1]; exact hp) (fun q h1 h2 => by rw [e1]; exact hk q h1 h2)
    ⟨Nat.le_trans hS.1 (by rw [e1]; exact hz), fun q h1 h2 => by rw [e1, hk q (Nat.lt_of_lt_of_le h1 hS.1) (fun z => h2 (hA q z))]; exact hS.2.1 q h1 h2, fun q hq => by
      rcases List.mem_append.mp hq with h | h
      · exact hS.2.2 q h
      · exact hA _ (hL q h)⟩ T' rfl X'
  exact ⟨t2, st t2 a1, b1⟩
end XR
theorem c_blind {av : List Value} {D : va_G} {cA : Nat → ClassId} {Pre : Heap → Prop} : FrameBlind (va_Pc av (fun U => KE D cA U ∧ Pre U.heap)) := fun a U g mk q => ⟨q.1, q.2.1.same rfl, q.2.2⟩
section XC
variable {p : Program} {l : Launch} {e : Env} {R : Room} {s : State} {m : MethodId} {args : Array Value} {below : List Frame} {meth : Method} {c : Code} {H : Heap} {locs : List Loc} {cells slots : Nat} {Q : State → Prop}
variable {cc : ByteArray} {pc : Nat} {ls : Array Slot} {rest st : List Value} {D : va_G} {cA : Nat → ClassId} {y : MethodName} {bytes : ByteArray} {maxL nL kc n index : Nat} {ret : Option FieldType} {own : String} {As : List Value} {Pre : Heap → Prop} {Post : Option Value → Heap → Prop} {A0 A1 : Nat → Prop} {H0 : Heap} {b : Nat}
abbrev yOk (y : MethodName) (n : Nat) : Prop := y.cls ≠ "java/lang/invoke/MethodHandle" ∧ y.cls ≠ "java/lang/invoke/VarHandle" ∧ (parseMethodDescriptor y.desc).map (fun d => d.parameters.length) = some n
theorem c_B (hK : KE D cA s) (tc : Cond.code y bytes maxL ret ∈ TW) (tn : Cond.initialized y.cls ∈ TW) (tl : (Cond.methodLink own index y).before args s = true) (hd : yOk y n) (hR : kc + 1 ≤ R.frames ∧ 8 + (maxL + 11) + 60 * kc ≤ R.locals) :
    CallB R s args own index y bytes maxL ret [.code y bytes maxL ret] (rl kc) 0 0 n := by
  refine ⟨rfl, rfl, hR.1, hR.2, fun w hw a' U hW => ?_, List.mem_cons_self, hK.w tc, hK.w tn, ⟨hd.1, hd.2.1⟩, fun sig h => ?_, tl⟩
  · rw [List.mem_singleton.mp hw]
    exact (hK.warm hW).w tc
  · have h2 := hd.2.2
    rw [h] at h2
    exact (Option.some.inj h2).symm
/-- a static call -/
theorem x_S (hexec : p.tables.exec = Jvm.exec) (hb : c.code = cc) (hml : c.maxLocals = nL) (hown : s.vm.findClass own = some m.cls) (hK : KE D cA s) (hM : Ct l y bytes maxL ret kc D cA As Pre Post A1) (tc : Cond.code y bytes maxL ret ∈ TW) (tn : Cond.initialized y.cls ∈ TW) (tl : Cond.methodLink own index y ∈ TW) (ts : Cond.static y ∈ TW) (hd : yOk y n) (hR : kc + 1 ≤ R.frames ∧ 8 + (maxL + 11) + 60 * kc ≤ R.locals)
    (hpre : Pre H) (hn : As.length = n) (hsize : ls.size = nL) (hst : st = As.reverse ++ rest) (hW : (rest.map fun v => v.category).sum ≤ 8) (hdg : decode cc pc = .ok (.invokestatic index, 3)) (hc : cells ≤ R.cells ∧ slots ≤ R.slots) (hS : va_S A0 H0 H locs) (hA : ∀ q, A1 q → A0 q)
    (kk : ∀ (r : Option Value) (H1 : Heap) (locs1 : List Loc), Post r H1 → (∀ q : Nat, q < H.size → ¬ A1 q → H1[q]? = H[q]?) → va_S A0 H0 H1 locs1 → W p l e R s m args below meth c H1 locs1 cells slots Q (F0 m (pc + 3) ls (r.toList ++ rest))) : W p l e R s m args below meth c H locs cells slots Q (F0 m pc ls st) :=
  c_go (va_runS (Ts := []) ⟨hexec, hb, hml, hown, fun w h => absurd h List.not_mem_nil⟩ hM ⟨c_B hK tc tn (hK.w tl) hd hR, hK.w ts⟩ ⟨c_blind, fun U hU hW => ⟨rfl, hK.warm hW, by rw [hU]; exact hpre⟩⟩ rfl hn hsize hst (lv_room hW) hdg hc) hS hA kk
/-- a virtual call of a method of the receiver's own -/
theorem x_V (hexec : p.tables.exec = Jvm.exec) (hb : c.code = cc) (hml : c.maxLocals = nL) (hown : s.vm.findClass own = some m.cls) (hK : KE D cA s) {C : String} (hM : Ct l y bytes maxL ret kc D cA (.ref b :: As) Pre Post A1) (tc : Cond.code y bytes maxL ret ∈ TW) (tn : Cond.initialized y.cls ∈ TW) (tl : Cond.methodLink own index y ∈ TW) (ti : Cond.instanceMethod y ∈ TW) (ts : Cond.selects C y y ∈ TW) (hd : yOk y n) (hR : kc + 1 ≤ R.frames ∧ 8 + (maxL + 11) + 60 * kc ≤ R.locals)
    (hrec : ∃ cellB : Cell, H[b]? = some cellB ∧ cellB.vm.isStatics = false ∧ s.vm.findClass C = some cellB.cls) (hpre : Pre H) (hn : As.length = n) (hsize : ls.size = nL) (hst : st = As.reverse ++ .ref b :: rest) (hW : (rest.map fun v => v.category).sum ≤ 8) (hdg : decode cc pc = .ok (.invokevirtual index, 3)) (hc : cells ≤ R.cells ∧ slots ≤ R.slots) (hS : va_S A0 H0 H locs) (hA : ∀ q, A1 q → A0 q)
    (kk : ∀ (r : Option Value) (H1 : Heap) (locs1 : List Loc), Post r H1 → (∀ q : Nat, q < H.size → ¬ A1 q → H1[q]? = H[q]?) → va_S A0 H0 H1 locs1 → W p l e R s m args below meth c H1 locs1 cells slots Q (F0 m (pc + 3) ls (r.toList ++ rest))) : W p l e R s m args below meth c H locs cells slots Q (F0 m pc ls st) :=
  c_go (va_runV (Ts := []) ⟨hexec, hb, hml, hown, fun w h => absurd h List.not_mem_nil⟩ hM ⟨c_B hK tc tn (hK.w tl) hd hR, hK.w ti, hK.w ts⟩ ⟨c_blind, hrec, fun U hU hW => ⟨rfl, hK.warm hW, by rw [hU]; exact hpre⟩⟩ rfl hn hsize hst (lv_room hW) hdg hc) hS hA kk
end XC
theorem Ct.mk {l : Launch} {y : MethodName} {bytes : ByteArray} {maxL : Nat} {ret : Option FieldType} {k : Nat} {D : va_G} {cA : Nat → ClassId} {av : List Value} {Pre : Heap → Prop} {Post : Option Value → Heap → Prop} {A : Nat → Prop}
    (hy : plainName y.cls = true) (hn : (lg_sl av).length ≤ maxL)
    (body : ∀ (p : Program) (e : Env) (s : State) (m : MethodId) (args : Array Value) (below : List Frame) (meth : Method) (c : Code) (Q : State → Prop) (H : Heap) (locs : List Loc) (ls : Array Slot), p.tables.exec = Jvm.exec → c.code = bytes → meth.sig.returnType = ret → c.maxLocals = maxL → meth.locks = false → s.vm.findClass y.cls = some m.cls → meth.name = y.name → KE D cA s → Q = MQ below (Qc0 Post A) args s 0 0 A → va_S A s.heap H locs → Pre H →
      lv_has ls maxL (lv_args 0 av) → W p l e (rl k) s m args below meth c H locs 0 0 Q (F0 m 0 ls [])) : Ct l y bytes maxL ret k D cA av Pre Post A := by
  refine Met.ofW (cc := bytes) (maxL := maxL) (ret := ret) hy rfl ?_
  intro p e s m args below meth c s₁ B hml hv
  obtain ⟨hav, hK, hP⟩ := hv
  have hl := lv_entry av (n := maxL) hn
  rw [show entryFrame m args maxL = F0 m 0 _ [] from by rw [hav]; exact lg_entry_eq ..]
  exact body p e s m args below meth c _ s.heap [] _ B.exec B.bytes B.returns hml B.notSynchronized (findClass_of_methodNamed B.named) (name_of_methodNamed B.named B.method).1 hK rfl va_S.rf hP hl
section XT
variable {p : Program} {l : Launch} {e : Env} {R : Room} {s : State} {m : MethodId} {args : Array Value} {below : List Frame} {meth : Method} {c : Code} {H : Heap} {locs : List Loc} {cells slots : Nat} {Q : State → Prop}
variable {cc : ByteArray} {pc : Nat} {ls : Array Slot} {rest : List Value} {Post : Option Value → Heap → Prop} {A : Nat → Prop}
theorem e_i (hexec : p.tables.exec = Jvm.exec) (hb : c.code = cc) {v : Int32} (hr : meth.sig.returnType = some .int) (hlocks : meth.locks = false) (hQ : Q = MQ below (Qc0 Post A) args s cells slots A) (hS : va_S A s.heap H locs) (hdg : decode cc pc = .ok (.ireturn, 1)) (hq : Post (some (.int v)) H) :
    W p l e R s m args below meth c H locs cells slots Q (F0 m pc ls [.int v]) := by rw [hQ]; exact ret_i hexec hb hr hlocks hS hdg hq
theorem e_z (hexec : p.tables.exec = Jvm.exec) (hb : c.code = cc) {b : Bool} (hr : meth.sig.returnType = some .boolean) (hlocks : meth.locks = false) (hQ : Q = MQ below (Qc0 Post A) args s cells slots A) (hS : va_S A s.heap H locs) (hdg : decode cc pc = .ok (.ireturn, 1)) (hq : Post (some (.int (bi b))) H) :
    W p l e R s m args below meth c H locs cells slots Q (F0 m pc ls [.int (bi b)]) := by rw [hQ]; exact ret_z hexec hb hr hlocks hS hdg hq
theorem e_v (hexec : p.tables.exec = Jvm.exec) (hb : c.code = cc) (hr : meth.sig.returnType = none) (hlocks : meth.locks = false) (hQ : Q = MQ below (Qc0 Post A) args s cells slots A) (hS : va_S A s.heap H locs) (hdg : decode cc pc = .ok (.return_, 1)) (hq : Post none H) :
    W p l e R s m args below meth c H locs cells slots Q (F0 m pc ls []) := by rw [hQ]; exact ret_v hexec hb hr hlocks hS hdg hq
end XT
