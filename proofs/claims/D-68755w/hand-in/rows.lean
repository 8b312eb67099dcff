section
-- ===== PART A: goes FIRST, ahead of the names: the tables' words, and 'selects' of the private methods out of them =====
/-- a private method of a class that the tables say can be made, by its rows of tables_1 -/
def lw_okq (q : MethodName × Nat) : Prop := (q.1.cls ≠ "java/lang/invoke/MethodHandle" ∧ q.1.cls ≠ "java/lang/invoke/VarHandle") ∧ Cond.instantiable q.1.cls q.2 ∈ tables_1 ∧ Cond.privateMethod q.1 ∈ tables_1 ∧ Cond.instanceMethod q.1 ∈ tables_1
theorem lw_p0 : lw_okq (⟨"OrderDesk$Lines", "give", "(LOrderDesk$Line;)V"⟩, 3) := ⟨⟨by decide +kernel, by decide +kernel⟩, List.mem_of_getElem? (i := 100) (by decide +kernel), List.mem_of_getElem? (i := 133) (by decide +kernel), List.mem_of_getElem? (i := 134) (by decide +kernel)⟩
theorem lw_p1 : lw_okq (⟨"OrderDesk", "line", "(I)LOrderDesk$Line;"⟩, 1) := ⟨⟨by decide +kernel, by decide +kernel⟩, List.mem_of_getElem? (i := 9) (by decide +kernel), List.mem_of_getElem? (i := 301) (by decide +kernel), List.mem_of_getElem? (i := 302) (by decide +kernel)⟩
theorem lw_p2 : lw_okq (⟨"OrderDeskModel", "more", "(II)Z"⟩, 6) := ⟨⟨by decide +kernel, by decide +kernel⟩, List.mem_of_getElem? (i := 329) (by decide +kernel), List.mem_of_getElem? (i := 363) (by decide +kernel), List.mem_of_getElem? (i := 364) (by decide +kernel)⟩
theorem lw_p3 : lw_okq (⟨"OrderDeskModel", "takesFrom", "(II)Z"⟩, 6) := ⟨⟨by decide +kernel, by decide +kernel⟩, List.mem_of_getElem? (i := 329) (by decide +kernel), List.mem_of_getElem? (i := 371) (by decide +kernel), List.mem_of_getElem? (i := 372) (by decide +kernel)⟩
theorem lw_p4 : lw_okq (⟨"OrderDeskModel", "isQueued", "(I)Z"⟩, 6) := ⟨⟨by decide +kernel, by decide +kernel⟩, List.mem_of_getElem? (i := 329) (by decide +kernel), List.mem_of_getElem? (i := 379) (by decide +kernel), List.mem_of_getElem? (i := 380) (by decide +kernel)⟩
theorem lw_p5 : lw_okq (⟨"OrderDeskModel", "arrive", "(II)I"⟩, 6) := ⟨⟨by decide +kernel, by decide +kernel⟩, List.mem_of_getElem? (i := 329) (by decide +kernel), List.mem_of_getElem? (i := 394) (by decide +kernel), List.mem_of_getElem? (i := 395) (by decide +kernel)⟩
theorem lw_p6 : lw_okq (⟨"OrderDeskModel", "nearest", "(IIZ)I"⟩, 6) := ⟨⟨by decide +kernel, by decide +kernel⟩, List.mem_of_getElem? (i := 329) (by decide +kernel), List.mem_of_getElem? (i := 410) (by decide +kernel), List.mem_of_getElem? (i := 411) (by decide +kernel)⟩
theorem lw_p7 : lw_okq (⟨"OrderDeskModel", "isOf", "(II)Z"⟩, 6) := ⟨⟨by decide +kernel, by decide +kernel⟩, List.mem_of_getElem? (i := 329) (by decide +kernel), List.mem_of_getElem? (i := 414) (by decide +kernel), List.mem_of_getElem? (i := 415) (by decide +kernel)⟩
theorem lw_p8 : lw_okq (⟨"OrderDeskModel", "stands", "(II)Z"⟩, 6) := ⟨⟨by decide +kernel, by decide +kernel⟩, List.mem_of_getElem? (i := 329) (by decide +kernel), List.mem_of_getElem? (i := 418) (by decide +kernel), List.mem_of_getElem? (i := 419) (by decide +kernel)⟩
def lw_privs_1 : List (MethodName × Nat) := [(⟨"OrderDesk$Lines", "give", "(LOrderDesk$Line;)V"⟩, 3), (⟨"OrderDesk", "line", "(I)LOrderDesk$Line;"⟩, 1), (⟨"OrderDeskModel", "more", "(II)Z"⟩, 6), (⟨"OrderDeskModel", "takesFrom", "(II)Z"⟩, 6), (⟨"OrderDeskModel", "isQueued", "(I)Z"⟩, 6), (⟨"OrderDeskModel", "arrive", "(II)I"⟩, 6), (⟨"OrderDeskModel", "nearest", "(IIZ)I"⟩, 6), (⟨"OrderDeskModel", "isOf", "(II)Z"⟩, 6), (⟨"OrderDeskModel", "stands", "(II)Z"⟩, 6)]
theorem lw_r1 : ∀ q ∈ lw_privs_1, lw_okq q := List.forall_mem_cons.mpr ⟨lw_p0, List.forall_mem_cons.mpr ⟨lw_p1, List.forall_mem_cons.mpr ⟨lw_p2, List.forall_mem_cons.mpr ⟨lw_p3, List.forall_mem_cons.mpr ⟨lw_p4, List.forall_mem_cons.mpr ⟨lw_p5, List.forall_mem_cons.mpr ⟨lw_p6, List.forall_mem_cons.mpr ⟨lw_p7, List.forall_mem_cons.mpr ⟨lw_p8, fun _ h => absurd h List.not_mem_nil⟩⟩⟩⟩⟩⟩⟩⟩⟩
def lw_privs : List (MethodName × Nat) := lw_privs_1
def lw_tbl : List Cond := k2_sels lw_privs ++ tables_1
theorem lw_privs_ok : ∀ q ∈ lw_privs, lw_okq q := lw_r1
/-- the words that go along into every method -/
def gw : List Cond := lw_tbl.filter goodWord
theorem gw_good : ∀ w ∈ gw, goodWord w = true := fun w h => (List.mem_filter.mp h).2
theorem gw_tbl : ∀ w ∈ gw, w ∈ lw_tbl := fun w h => (List.mem_filter.mp h).1
theorem gw_of {w : Cond} (h : w ∈ tables_1) (g : goodWord w = true) : w ∈ gw := List.mem_filter.mpr ⟨List.mem_append_right _ h, g⟩
theorem gw_sel {w : Cond} (h : w ∈ k2_sels lw_privs) (g : goodWord w = true) : w ∈ gw := List.mem_filter.mpr ⟨List.mem_append_left _ h, g⟩
def R_Item : String := "OrderDesk$Item"
def F_Item : u_T := fun k => match k with
  | 0 => ("OrderDesk$Item", "number", "I", true)
  | 1 => ("OrderDesk$Item", "members", "[LOrderDesk$Member;", true)
  | 2 => ("OrderDesk$Item", "size", "I", false)
  | 3 => ("OrderDesk$Item", "priority", "I", false)
  | 4 => ("OrderDesk$Item", "arrival", "I", false)
  | 5 => ("OrderDesk$Item", "queued", "Z", false)
  | 6 => ("OrderDesk$Item", "ahead", "LOrderDesk$Item;", false)
  | _ => ("OrderDesk$Item", "after", "LOrderDesk$Item;", false)
def t_Item : Nat → FieldType := fun k => match k with
  | 0 => .int
  | 1 => .array (.object "OrderDesk$Member")
  | 2 => .int
  | 3 => .int
  | 4 => .int
  | 5 => .boolean
  | 6 => .object "OrderDesk$Item"
  | _ => .object "OrderDesk$Item"
def R_Member : String := "OrderDesk$Member"
def F_Member : u_T := fun k => match k with
  | 0 => ("OrderDesk$Member", "item", "LOrderDesk$Item;", false)
  | 1 => ("OrderDesk$Member", "position", "I", false)
  | 2 => ("OrderDesk$Member", "line", "LOrderDesk$Line;", false)
  | 3 => ("OrderDesk$Member", "ahead", "LOrderDesk$Member;", false)
  | _ => ("OrderDesk$Member", "after", "LOrderDesk$Member;", false)
def t_Member : Nat → FieldType := fun k => match k with
  | 0 => .object "OrderDesk$Item"
  | 1 => .int
  | 2 => .object "OrderDesk$Line"
  | 3 => .object "OrderDesk$Member"
  | _ => .object "OrderDesk$Member"
def R_Line : String := "OrderDesk$Line"
def F_Line : u_T := fun k => match k with
  | 0 => ("OrderDesk$Line", "position", "I", false)
  | 1 => ("OrderDesk$Line", "size", "I", false)
  | 2 => ("OrderDesk$Line", "first", "LOrderDesk$Member;", false)
  | 3 => ("OrderDesk$Line", "last", "LOrderDesk$Member;", false)
  | _ => ("OrderDesk$Line", "other", "LOrderDesk$Line;", false)
def t_Line : Nat → FieldType := fun k => match k with
  | 0 => .int
  | 1 => .int
  | 2 => .object "OrderDesk$Member"
  | 3 => .object "OrderDesk$Member"
  | _ => .object "OrderDesk$Line"
def R_Lines : String := "OrderDesk$Lines"
def F_Lines : u_T := fun k => match k with
  | 0 => ("OrderDesk$Lines", "chains", "[LOrderDesk$Line;", true)
  | 1 => ("OrderDesk$Lines", "free", "LOrderDesk$Line;", false)
  | _ => ("OrderDesk$Lines", "used", "I", false)
def t_Lines : Nat → FieldType := fun k => match k with
  | 0 => .array (.object "OrderDesk$Line")
  | 1 => .object "OrderDesk$Line"
  | _ => .int
def R_Orders : String := "OrderDesk$Orders"
def F_Orders : u_T := fun k => match k with
  | 0 => ("OrderDesk$Orders", "items", "[LOrderDesk$Item;", true)
  | 1 => ("OrderDesk$Orders", "lines", "LOrderDesk$Lines;", true)
  | 2 => ("OrderDesk$Orders", "first", "LOrderDesk$Item;", false)
  | 3 => ("OrderDesk$Orders", "last", "LOrderDesk$Item;", false)
  | 4 => ("OrderDesk$Orders", "size", "I", false)
  | _ => ("OrderDesk$Orders", "arrivals", "I", false)
def t_Orders : Nat → FieldType := fun k => match k with
  | 0 => .array (.object "OrderDesk$Item")
  | 1 => .object "OrderDesk$Lines"
  | 2 => .object "OrderDesk$Item"
  | 3 => .object "OrderDesk$Item"
  | 4 => .int
  | _ => .int
def R_Desk : String := "OrderDesk"
def F_Desk : u_T := fun k => match k with
  | _ => ("OrderDesk", "orders", "LOrderDesk$Orders;", true)
def t_Desk : Nat → FieldType := fun k => match k with
  | _ => .object "OrderDesk$Orders"
def R_Model : String := "OrderDeskModel"
def F_Model : u_T := fun k => match k with
  | 0 => ("OrderDeskModel", "queued", "[Z", true)
  | 1 => ("OrderDeskModel", "priority", "[I", true)
  | 2 => ("OrderDeskModel", "arrival", "[I", true)
  | 3 => ("OrderDeskModel", "many", "[I", true)
  | 4 => ("OrderDeskModel", "takes", "[I", true)
  | _ => ("OrderDeskModel", "arrivals", "I", false)
def t_Model : Nat → FieldType := fun k => match k with
  | 0 => .array .boolean
  | 1 => .array .int
  | 2 => .array .int
  | 3 => .array .int
  | 4 => .array .int
  | _ => .int
abbrev classes : List vw_C := [(R_Item, F_Item, 8), (R_Member, F_Member, 5), (R_Line, F_Line, 5), (R_Lines, F_Lines, 3), (R_Orders, F_Orders, 6), (R_Desk, F_Desk, 1), (R_Model, F_Model, 6)]
def tyOf : Nat → Nat → FieldType := fun c => match c with
  | 0 => t_Item
  | 1 => t_Member
  | 2 => t_Line
  | 3 => t_Lines
  | 4 => t_Orders
  | 5 => t_Desk
  | _ => t_Model
/-- class number c of classes: its words stand in gw, its types, its names are apart -/
def clOK (c : Nat) : Prop := ∃ (C : String) (T : u_T) (N : Nat), classes[c]? = some (C, T, N) ∧ (∀ w ∈ u_ws C T N, w ∈ gw) ∧ (∀ k, k < N → parseFieldDescriptor (T k).2.2.1 = some (tyOf c k)) ∧ (∀ a, a < N → ∀ b, b < N → a ≠ b → (T a).2.1 ≠ (T b).2.1)
set_option maxRecDepth 20000 in
theorem cl_Item_w : ∀ w ∈ u_ws R_Item F_Item 8, w ∈ gw := by decide +kernel
theorem cl_Item : clOK 0 := ⟨R_Item, F_Item, 8, rfl, cl_Item_w, by decide +kernel, by decide +kernel⟩
set_option maxRecDepth 20000 in
theorem cl_Member_w : ∀ w ∈ u_ws R_Member F_Member 5, w ∈ gw := by decide +kernel
theorem cl_Member : clOK 1 := ⟨R_Member, F_Member, 5, rfl, cl_Member_w, by decide +kernel, by decide +kernel⟩
set_option maxRecDepth 20000 in
theorem cl_Line_w : ∀ w ∈ u_ws R_Line F_Line 5, w ∈ gw := by decide +kernel
theorem cl_Line : clOK 2 := ⟨R_Line, F_Line, 5, rfl, cl_Line_w, by decide +kernel, by decide +kernel⟩
set_option maxRecDepth 20000 in
theorem cl_Lines_w : ∀ w ∈ u_ws R_Lines F_Lines 3, w ∈ gw := by decide +kernel
theorem cl_Lines : clOK 3 := ⟨R_Lines, F_Lines, 3, rfl, cl_Lines_w, by decide +kernel, by decide +kernel⟩
set_option maxRecDepth 20000 in
theorem cl_Orders_w : ∀ w ∈ u_ws R_Orders F_Orders 6, w ∈ gw := by decide +kernel
theorem cl_Orders : clOK 4 := ⟨R_Orders, F_Orders, 6, rfl, cl_Orders_w, by decide +kernel, by decide +kernel⟩
set_option maxRecDepth 20000 in
theorem cl_Desk_w : ∀ w ∈ u_ws R_Desk F_Desk 1, w ∈ gw := by decide +kernel
theorem cl_Desk : clOK 5 := ⟨R_Desk, F_Desk, 1, rfl, cl_Desk_w, by decide +kernel, by decide +kernel⟩
set_option maxRecDepth 20000 in
theorem cl_Model_w : ∀ w ∈ u_ws R_Model F_Model 6, w ∈ gw := by decide +kernel
theorem cl_Model : clOK 6 := ⟨R_Model, F_Model, 6, rfl, cl_Model_w, by decide +kernel, by decide +kernel⟩
/-- the field that entry ix of the class own links: field k of class number c -/
def FL (own : String) (ix c k : Nat) : Prop := ∃ (C : String) (T : u_T) (N : Nat), classes[c]? = some (C, T, N) ∧ k < N ∧ (T k).1 = C ∧ (Cond.fieldLink own ix C (T k).2.1 (T k).2.2.1 ∈ gw ∨ ∃ host : String, Cond.fieldLinkNest own ix C (T k).2.1 (T k).2.2.1 host ∈ tables_1)
theorem fl_Line_13 : FL "OrderDesk$Line" 13 1 0 := ⟨_, _, _, rfl, by decide, rfl, Or.inr ⟨"OrderDesk", List.mem_of_getElem? (i := 36) (by decide +kernel)⟩⟩
theorem fl_Item_20 : FL "OrderDesk$Item" 20 1 0 := ⟨_, _, _, rfl, by decide, rfl, Or.inr ⟨"OrderDesk", List.mem_of_getElem? (i := 37) (by decide +kernel)⟩⟩
theorem fl_Orders_110 : FL "OrderDesk$Orders" 110 1 0 := ⟨_, _, _, rfl, by decide, rfl, Or.inr ⟨"OrderDesk", List.mem_of_getElem? (i := 38) (by decide +kernel)⟩⟩
theorem fl_Item_33 : FL "OrderDesk$Item" 33 1 1 := ⟨_, _, _, rfl, by decide, rfl, Or.inr ⟨"OrderDesk", List.mem_of_getElem? (i := 39) (by decide +kernel)⟩⟩
theorem fl_Orders_70 : FL "OrderDesk$Orders" 70 1 1 := ⟨_, _, _, rfl, by decide, rfl, Or.inr ⟨"OrderDesk", List.mem_of_getElem? (i := 40) (by decide +kernel)⟩⟩
theorem fl_Desk_127 : FL "OrderDesk" 127 1 1 := ⟨_, _, _, rfl, by decide, rfl, Or.inr ⟨"OrderDesk", List.mem_of_getElem? (i := 41) (by decide +kernel)⟩⟩
theorem fl_Line_28 : FL "OrderDesk$Line" 28 1 2 := ⟨_, _, _, rfl, by decide, rfl, Or.inr ⟨"OrderDesk", List.mem_of_getElem? (i := 42) (by decide +kernel)⟩⟩
theorem fl_Orders_86 : FL "OrderDesk$Orders" 86 1 2 := ⟨_, _, _, rfl, by decide, rfl, Or.inr ⟨"OrderDesk", List.mem_of_getElem? (i := 43) (by decide +kernel)⟩⟩
theorem fl_Line_25 : FL "OrderDesk$Line" 25 1 3 := ⟨_, _, _, rfl, by decide, rfl, Or.inr ⟨"OrderDesk", List.mem_of_getElem? (i := 44) (by decide +kernel)⟩⟩
theorem fl_Orders_104 : FL "OrderDesk$Orders" 104 1 3 := ⟨_, _, _, rfl, by decide, rfl, Or.inr ⟨"OrderDesk", List.mem_of_getElem? (i := 45) (by decide +kernel)⟩⟩
theorem fl_Line_35 : FL "OrderDesk$Line" 35 1 4 := ⟨_, _, _, rfl, by decide, rfl, Or.inr ⟨"OrderDesk", List.mem_of_getElem? (i := 46) (by decide +kernel)⟩⟩
theorem fl_Desk_108 : FL "OrderDesk" 108 1 4 := ⟨_, _, _, rfl, by decide, rfl, Or.inr ⟨"OrderDesk", List.mem_of_getElem? (i := 47) (by decide +kernel)⟩⟩
theorem fl_Item_15 : FL "OrderDesk$Item" 15 0 0 := ⟨_, _, _, rfl, by decide, rfl, Or.inl (gw_of (List.mem_of_getElem? (i := 59) (by decide +kernel)) rfl)⟩
theorem fl_Orders_107 : FL "OrderDesk$Orders" 107 0 0 := ⟨_, _, _, rfl, by decide, rfl, Or.inr ⟨"OrderDesk", List.mem_of_getElem? (i := 60) (by decide +kernel)⟩⟩
theorem fl_Item_11 : FL "OrderDesk$Item" 11 0 1 := ⟨_, _, _, rfl, by decide, rfl, Or.inl (gw_of (List.mem_of_getElem? (i := 61) (by decide +kernel)) rfl)⟩
theorem fl_Orders_66 : FL "OrderDesk$Orders" 66 0 1 := ⟨_, _, _, rfl, by decide, rfl, Or.inr ⟨"OrderDesk", List.mem_of_getElem? (i := 62) (by decide +kernel)⟩⟩
theorem fl_Desk_123 : FL "OrderDesk" 123 0 1 := ⟨_, _, _, rfl, by decide, rfl, Or.inr ⟨"OrderDesk", List.mem_of_getElem? (i := 63) (by decide +kernel)⟩⟩
theorem fl_Item_30 : FL "OrderDesk$Item" 30 0 2 := ⟨_, _, _, rfl, by decide, rfl, Or.inl (gw_of (List.mem_of_getElem? (i := 64) (by decide +kernel)) rfl)⟩
theorem fl_Orders_63 : FL "OrderDesk$Orders" 63 0 2 := ⟨_, _, _, rfl, by decide, rfl, Or.inr ⟨"OrderDesk", List.mem_of_getElem? (i := 65) (by decide +kernel)⟩⟩
theorem fl_Desk_50 : FL "OrderDesk" 50 0 2 := ⟨_, _, _, rfl, by decide, rfl, Or.inr ⟨"OrderDesk", List.mem_of_getElem? (i := 66) (by decide +kernel)⟩⟩
theorem fl_Item_24 : FL "OrderDesk$Item" 24 0 3 := ⟨_, _, _, rfl, by decide, rfl, Or.inl (gw_of (List.mem_of_getElem? (i := 67) (by decide +kernel)) rfl)⟩
theorem fl_Orders_40 : FL "OrderDesk$Orders" 40 0 3 := ⟨_, _, _, rfl, by decide, rfl, Or.inr ⟨"OrderDesk", List.mem_of_getElem? (i := 68) (by decide +kernel)⟩⟩
theorem fl_Desk_117 : FL "OrderDesk" 117 0 3 := ⟨_, _, _, rfl, by decide, rfl, Or.inr ⟨"OrderDesk", List.mem_of_getElem? (i := 69) (by decide +kernel)⟩⟩
theorem fl_Item_27 : FL "OrderDesk$Item" 27 0 4 := ⟨_, _, _, rfl, by decide, rfl, Or.inl (gw_of (List.mem_of_getElem? (i := 70) (by decide +kernel)) rfl)⟩
theorem fl_Orders_43 : FL "OrderDesk$Orders" 43 0 4 := ⟨_, _, _, rfl, by decide, rfl, Or.inr ⟨"OrderDesk", List.mem_of_getElem? (i := 71) (by decide +kernel)⟩⟩
theorem fl_Desk_120 : FL "OrderDesk" 120 0 4 := ⟨_, _, _, rfl, by decide, rfl, Or.inr ⟨"OrderDesk", List.mem_of_getElem? (i := 72) (by decide +kernel)⟩⟩
theorem fl_Orders_32 : FL "OrderDesk$Orders" 32 0 5 := ⟨_, _, _, rfl, by decide, rfl, Or.inr ⟨"OrderDesk", List.mem_of_getElem? (i := 73) (by decide +kernel)⟩⟩
theorem fl_Desk_114 : FL "OrderDesk" 114 0 5 := ⟨_, _, _, rfl, by decide, rfl, Or.inr ⟨"OrderDesk", List.mem_of_getElem? (i := 74) (by decide +kernel)⟩⟩
theorem fl_Orders_54 : FL "OrderDesk$Orders" 54 0 6 := ⟨_, _, _, rfl, by decide, rfl, Or.inr ⟨"OrderDesk", List.mem_of_getElem? (i := 75) (by decide +kernel)⟩⟩
theorem fl_Orders_60 : FL "OrderDesk$Orders" 60 0 7 := ⟨_, _, _, rfl, by decide, rfl, Or.inr ⟨"OrderDesk", List.mem_of_getElem? (i := 76) (by decide +kernel)⟩⟩
theorem fl_Desk_81 : FL "OrderDesk" 81 0 7 := ⟨_, _, _, rfl, by decide, rfl, Or.inr ⟨"OrderDesk", List.mem_of_getElem? (i := 77) (by decide +kernel)⟩⟩
theorem fl_Lines_31 : FL "OrderDesk$Lines" 31 2 0 := ⟨_, _, _, rfl, by decide, rfl, Or.inr ⟨"OrderDesk", List.mem_of_getElem? (i := 112) (by decide +kernel)⟩⟩
theorem fl_Line_38 : FL "OrderDesk$Line" 38 2 1 := ⟨_, _, _, rfl, by decide, rfl, Or.inl (gw_of (List.mem_of_getElem? (i := 113) (by decide +kernel)) rfl)⟩
theorem fl_Orders_93 : FL "OrderDesk$Orders" 93 2 1 := ⟨_, _, _, rfl, by decide, rfl, Or.inr ⟨"OrderDesk", List.mem_of_getElem? (i := 114) (by decide +kernel)⟩⟩
theorem fl_Desk_113 : FL "OrderDesk" 113 2 1 := ⟨_, _, _, rfl, by decide, rfl, Or.inr ⟨"OrderDesk", List.mem_of_getElem? (i := 115) (by decide +kernel)⟩⟩
theorem fl_Line_32 : FL "OrderDesk$Line" 32 2 2 := ⟨_, _, _, rfl, by decide, rfl, Or.inl (gw_of (List.mem_of_getElem? (i := 116) (by decide +kernel)) rfl)⟩
theorem fl_Desk_97 : FL "OrderDesk" 97 2 2 := ⟨_, _, _, rfl, by decide, rfl, Or.inr ⟨"OrderDesk", List.mem_of_getElem? (i := 117) (by decide +kernel)⟩⟩
theorem fl_Line_7 : FL "OrderDesk$Line" 7 2 3 := ⟨_, _, _, rfl, by decide, rfl, Or.inl (gw_of (List.mem_of_getElem? (i := 118) (by decide +kernel)) rfl)⟩
theorem fl_Desk_105 : FL "OrderDesk" 105 2 3 := ⟨_, _, _, rfl, by decide, rfl, Or.inr ⟨"OrderDesk", List.mem_of_getElem? (i := 119) (by decide +kernel)⟩⟩
theorem fl_Lines_24 : FL "OrderDesk$Lines" 24 2 4 := ⟨_, _, _, rfl, by decide, rfl, Or.inr ⟨"OrderDesk", List.mem_of_getElem? (i := 120) (by decide +kernel)⟩⟩
theorem fl_Lines_11 : FL "OrderDesk$Lines" 11 3 0 := ⟨_, _, _, rfl, by decide, rfl, Or.inl (gw_of (List.mem_of_getElem? (i := 136) (by decide +kernel)) rfl)⟩
theorem fl_Lines_20 : FL "OrderDesk$Lines" 20 3 1 := ⟨_, _, _, rfl, by decide, rfl, Or.inl (gw_of (List.mem_of_getElem? (i := 137) (by decide +kernel)) rfl)⟩
theorem fl_Lines_39 : FL "OrderDesk$Lines" 39 3 2 := ⟨_, _, _, rfl, by decide, rfl, Or.inl (gw_of (List.mem_of_getElem? (i := 138) (by decide +kernel)) rfl)⟩
theorem fl_Desk_130 : FL "OrderDesk" 130 3 2 := ⟨_, _, _, rfl, by decide, rfl, Or.inr ⟨"OrderDesk", List.mem_of_getElem? (i := 139) (by decide +kernel)⟩⟩
theorem fl_Orders_9 : FL "OrderDesk$Orders" 9 4 0 := ⟨_, _, _, rfl, by decide, rfl, Or.inl (gw_of (List.mem_of_getElem? (i := 147) (by decide +kernel)) rfl)⟩
theorem fl_Desk_30 : FL "OrderDesk" 30 4 0 := ⟨_, _, _, rfl, by decide, rfl, Or.inr ⟨"OrderDesk", List.mem_of_getElem? (i := 148) (by decide +kernel)⟩⟩
theorem fl_Orders_24 : FL "OrderDesk$Orders" 24 4 1 := ⟨_, _, _, rfl, by decide, rfl, Or.inl (gw_of (List.mem_of_getElem? (i := 149) (by decide +kernel)) rfl)⟩
theorem fl_Desk_84 : FL "OrderDesk" 84 4 1 := ⟨_, _, _, rfl, by decide, rfl, Or.inr ⟨"OrderDesk", List.mem_of_getElem? (i := 150) (by decide +kernel)⟩⟩
theorem fl_Orders_57 : FL "OrderDesk$Orders" 57 4 2 := ⟨_, _, _, rfl, by decide, rfl, Or.inl (gw_of (List.mem_of_getElem? (i := 151) (by decide +kernel)) rfl)⟩
theorem fl_Desk_73 : FL "OrderDesk" 73 4 2 := ⟨_, _, _, rfl, by decide, rfl, Or.inr ⟨"OrderDesk", List.mem_of_getElem? (i := 152) (by decide +kernel)⟩⟩
theorem fl_Orders_46 : FL "OrderDesk$Orders" 46 4 3 := ⟨_, _, _, rfl, by decide, rfl, Or.inl (gw_of (List.mem_of_getElem? (i := 153) (by decide +kernel)) rfl)⟩
theorem fl_Orders_85 : FL "OrderDesk$Orders" 85 4 4 := ⟨_, _, _, rfl, by decide, rfl, Or.inl (gw_of (List.mem_of_getElem? (i := 154) (by decide +kernel)) rfl)⟩
theorem fl_Desk_112 : FL "OrderDesk" 112 4 4 := ⟨_, _, _, rfl, by decide, rfl, Or.inr ⟨"OrderDesk", List.mem_of_getElem? (i := 155) (by decide +kernel)⟩⟩
theorem fl_Orders_36 : FL "OrderDesk$Orders" 36 4 5 := ⟨_, _, _, rfl, by decide, rfl, Or.inl (gw_of (List.mem_of_getElem? (i := 156) (by decide +kernel)) rfl)⟩
theorem fl_Desk_14 : FL "OrderDesk" 14 5 0 := ⟨_, _, _, rfl, by decide, rfl, Or.inl (gw_of (List.mem_of_getElem? (i := 170) (by decide +kernel)) rfl)⟩
theorem fl_Model_7 : FL "OrderDeskModel" 7 6 0 := ⟨_, _, _, rfl, by decide, rfl, Or.inl (gw_of (List.mem_of_getElem? (i := 334) (by decide +kernel)) rfl)⟩
theorem fl_Model_13 : FL "OrderDeskModel" 13 6 1 := ⟨_, _, _, rfl, by decide, rfl, Or.inl (gw_of (List.mem_of_getElem? (i := 335) (by decide +kernel)) rfl)⟩
theorem fl_Model_17 : FL "OrderDeskModel" 17 6 2 := ⟨_, _, _, rfl, by decide, rfl, Or.inl (gw_of (List.mem_of_getElem? (i := 336) (by decide +kernel)) rfl)⟩
theorem fl_Model_20 : FL "OrderDeskModel" 20 6 3 := ⟨_, _, _, rfl, by decide, rfl, Or.inl (gw_of (List.mem_of_getElem? (i := 337) (by decide +kernel)) rfl)⟩
theorem fl_Model_23 : FL "OrderDeskModel" 23 6 4 := ⟨_, _, _, rfl, by decide, rfl, Or.inl (gw_of (List.mem_of_getElem? (i := 338) (by decide +kernel)) rfl)⟩
theorem fl_Model_44 : FL "OrderDeskModel" 44 6 5 := ⟨_, _, _, rfl, by decide, rfl, Or.inl (gw_of (List.mem_of_getElem? (i := 339) (by decide +kernel)) rfl)⟩
-- methods
abbrev b_Desk_init : ByteArray := prog_1_method_1_code
def y_Desk_init : MethodName := ⟨"OrderDesk", "<init>", "()V"⟩
theorem k_Desk_init : Cond.code y_Desk_init b_Desk_init 1 none ∈ gw := gw_of (List.mem_of_getElem? (i := 12) rfl) rfl
abbrev b_Orders_init : ByteArray := prog_6_method_1_code
def y_Orders_init : MethodName := ⟨"OrderDesk$Orders", "<init>", "(I)V"⟩
theorem k_Orders_init : Cond.code y_Orders_init b_Orders_init 3 none ∈ gw := gw_of (List.mem_of_getElem? (i := 20) rfl) rfl
abbrev b_Item_init : ByteArray := prog_2_method_1_code
def y_Item_init : MethodName := ⟨"OrderDesk$Item", "<init>", "(I)V"⟩
theorem k_Item_init : Cond.code y_Item_init b_Item_init 3 none ∈ gw := gw_of (List.mem_of_getElem? (i := 27) rfl) rfl
abbrev b_Member_init : ByteArray := prog_5_method_1_code
def y_Member_init : MethodName := ⟨"OrderDesk$Member", "<init>", "()V"⟩
theorem k_Member_init : Cond.code y_Member_init b_Member_init 1 none ∈ gw := gw_of (List.mem_of_getElem? (i := 34) rfl) rfl
abbrev b_Item_begin : ByteArray := prog_2_method_2_code
def y_Item_begin : MethodName := ⟨"OrderDesk$Item", "begin", "()V"⟩
theorem k_Item_begin : Cond.code y_Item_begin b_Item_begin 2 none ∈ gw := gw_of (List.mem_of_getElem? (i := 98) rfl) rfl
abbrev b_Lines_init : ByteArray := prog_4_method_1_code
def y_Lines_init : MethodName := ⟨"OrderDesk$Lines", "<init>", "(I)V"⟩
theorem k_Lines_init : Cond.code y_Lines_init b_Lines_init 3 none ∈ gw := gw_of (List.mem_of_getElem? (i := 103) rfl) rfl
abbrev b_Line_init : ByteArray := prog_3_method_1_code
def y_Line_init : MethodName := ⟨"OrderDesk$Line", "<init>", "()V"⟩
theorem k_Line_init : Cond.code y_Line_init b_Line_init 1 none ∈ gw := gw_of (List.mem_of_getElem? (i := 110) rfl) rfl
abbrev b_Lines_give : ByteArray := prog_4_method_2_code
def y_Lines_give : MethodName := ⟨"OrderDesk$Lines", "give", "(LOrderDesk$Line;)V"⟩
theorem k_Lines_give : Cond.code y_Lines_give b_Lines_give 2 none ∈ gw := gw_of (List.mem_of_getElem? (i := 135) rfl) rfl
abbrev b_Desk_take : ByteArray := prog_1_method_4_code
def y_Desk_take : MethodName := ⟨"OrderDesk", "take", "(II)Z"⟩
theorem k_Desk_take : Cond.code y_Desk_take b_Desk_take 3 (some .boolean) ∈ gw := gw_of (List.mem_of_getElem? (i := 177) rfl) rfl
abbrev b_Orders_isItem : ByteArray := prog_6_method_2_code
def y_Orders_isItem : MethodName := ⟨"OrderDesk$Orders", "isItem", "(I)Z"⟩
theorem k_Orders_isItem : Cond.code y_Orders_isItem b_Orders_isItem 2 (some .boolean) ∈ gw := gw_of (List.mem_of_getElem? (i := 181) rfl) rfl
abbrev b_Orders_queued : ByteArray := prog_6_method_3_code
def y_Orders_queued : MethodName := ⟨"OrderDesk$Orders", "queued", "(I)LOrderDesk$Item;"⟩
theorem k_Orders_queued : Cond.code y_Orders_queued b_Orders_queued 2 (some (.object "OrderDesk$Item")) ∈ gw := gw_of (List.mem_of_getElem? (i := 185) rfl) rfl
abbrev b_Desk_isPosition : ByteArray := prog_1_method_3_code
def y_Desk_isPosition : MethodName := ⟨"OrderDesk", "isPosition", "(I)Z"⟩
theorem k_Desk_isPosition : Cond.code y_Desk_isPosition b_Desk_isPosition 1 (some .boolean) ∈ gw := gw_of (List.mem_of_getElem? (i := 189) rfl) rfl
abbrev b_Item_take : ByteArray := prog_2_method_5_code
def y_Item_take : MethodName := ⟨"OrderDesk$Item", "take", "(I)Z"⟩
theorem k_Item_take : Cond.code y_Item_take b_Item_take 2 (some .boolean) ∈ gw := gw_of (List.mem_of_getElem? (i := 194) rfl) rfl
abbrev b_Item_of : ByteArray := prog_2_method_4_code
def y_Item_of : MethodName := ⟨"OrderDesk$Item", "of", "(I)LOrderDesk$Member;"⟩
theorem k_Item_of : Cond.code y_Item_of b_Item_of 3 (some (.object "OrderDesk$Member")) ∈ gw := gw_of (List.mem_of_getElem? (i := 198) rfl) rfl
abbrev b_Desk_come : ByteArray := prog_1_method_5_code
def y_Desk_come : MethodName := ⟨"OrderDesk", "come", "(II)I"⟩
theorem k_Desk_come : Cond.code y_Desk_come b_Desk_come 3 (some .int) ∈ gw := gw_of (List.mem_of_getElem? (i := 202) rfl) rfl
abbrev b_Desk_isPriority : ByteArray := prog_1_method_2_code
def y_Desk_isPriority : MethodName := ⟨"OrderDesk", "isPriority", "(I)Z"⟩
theorem k_Desk_isPriority : Cond.code y_Desk_isPriority b_Desk_isPriority 1 (some .boolean) ∈ gw := gw_of (List.mem_of_getElem? (i := 205) rfl) rfl
abbrev b_Orders_enter : ByteArray := prog_6_method_4_code
def y_Orders_enter : MethodName := ⟨"OrderDesk$Orders", "enter", "(LOrderDesk$Item;I)I"⟩
theorem k_Orders_enter : Cond.code y_Orders_enter b_Orders_enter 5 (some .int) ∈ gw := gw_of (List.mem_of_getElem? (i := 209) rfl) rfl
abbrev b_Item_isBefore : ByteArray := prog_2_method_3_code
def y_Item_isBefore : MethodName := ⟨"OrderDesk$Item", "isBefore", "(LOrderDesk$Item;)Z"⟩
theorem k_Item_isBefore : Cond.code y_Item_isBefore b_Item_isBefore 2 (some .boolean) ∈ gw := gw_of (List.mem_of_getElem? (i := 213) rfl) rfl
abbrev b_Lines_need : ByteArray := prog_4_method_5_code
def y_Lines_need : MethodName := ⟨"OrderDesk$Lines", "need", "(I)LOrderDesk$Line;"⟩
theorem k_Lines_need : Cond.code y_Lines_need b_Lines_need 3 (some (.object "OrderDesk$Line")) ∈ gw := gw_of (List.mem_of_getElem? (i := 217) rfl) rfl
abbrev b_Lines_find : ByteArray := prog_4_method_4_code
def y_Lines_find : MethodName := ⟨"OrderDesk$Lines", "find", "(I)LOrderDesk$Line;"⟩
theorem k_Lines_find : Cond.code y_Lines_find b_Lines_find 3 (some (.object "OrderDesk$Line")) ∈ gw := gw_of (List.mem_of_getElem? (i := 221) rfl) rfl
abbrev b_Lines_chain : ByteArray := prog_4_method_3_code
def y_Lines_chain : MethodName := ⟨"OrderDesk$Lines", "chain", "(I)I"⟩
theorem k_Lines_chain : Cond.code y_Lines_chain b_Lines_chain 1 (some .int) ∈ gw := gw_of (List.mem_of_getElem? (i := 224) rfl) rfl
abbrev b_Line_insert : ByteArray := prog_3_method_2_code
def y_Line_insert : MethodName := ⟨"OrderDesk$Line", "insert", "(LOrderDesk$Member;)V"⟩
theorem k_Line_insert : Cond.code y_Line_insert b_Line_insert 3 none ∈ gw := gw_of (List.mem_of_getElem? (i := 228) rfl) rfl
abbrev b_Desk_leave : ByteArray := prog_1_method_6_code
def y_Desk_leave : MethodName := ⟨"OrderDesk", "leave", "(I)Z"⟩
theorem k_Desk_leave : Cond.code y_Desk_leave b_Desk_leave 3 (some .boolean) ∈ gw := gw_of (List.mem_of_getElem? (i := 233) rfl) rfl
abbrev b_Orders_exit : ByteArray := prog_6_method_5_code
def y_Orders_exit : MethodName := ⟨"OrderDesk$Orders", "exit", "(LOrderDesk$Item;)V"⟩
theorem k_Orders_exit : Cond.code y_Orders_exit b_Orders_exit 4 none ∈ gw := gw_of (List.mem_of_getElem? (i := 237) rfl) rfl
abbrev b_Line_remove : ByteArray := prog_3_method_3_code
def y_Line_remove : MethodName := ⟨"OrderDesk$Line", "remove", "(LOrderDesk$Member;)V"⟩
theorem k_Line_remove : Cond.code y_Line_remove b_Line_remove 2 none ∈ gw := gw_of (List.mem_of_getElem? (i := 241) rfl) rfl
abbrev b_Lines_drop : ByteArray := prog_4_method_6_code
def y_Lines_drop : MethodName := ⟨"OrderDesk$Lines", "drop", "(LOrderDesk$Line;)V"⟩
theorem k_Lines_drop : Cond.code y_Lines_drop b_Lines_drop 4 none ∈ gw := gw_of (List.mem_of_getElem? (i := 245) rfl) rfl
abbrev b_Desk_again : ByteArray := prog_1_method_7_code
def y_Desk_again : MethodName := ⟨"OrderDesk", "again", "(II)I"⟩
theorem k_Desk_again : Cond.code y_Desk_again b_Desk_again 4 (some .int) ∈ gw := gw_of (List.mem_of_getElem? (i := 249) rfl) rfl
abbrev b_Desk_join : ByteArray := prog_1_method_8_code
def y_Desk_join : MethodName := ⟨"OrderDesk", "join", "(II)Z"⟩
theorem k_Desk_join : Cond.code y_Desk_join b_Desk_join 4 (some .boolean) ∈ gw := gw_of (List.mem_of_getElem? (i := 253) rfl) rfl
abbrev b_Orders_join : ByteArray := prog_6_method_6_code
def y_Orders_join : MethodName := ⟨"OrderDesk$Orders", "join", "(LOrderDesk$Item;I)Z"⟩
theorem k_Orders_join : Cond.code y_Orders_join b_Orders_join 3 (some .boolean) ∈ gw := gw_of (List.mem_of_getElem? (i := 257) rfl) rfl
abbrev b_Desk_part : ByteArray := prog_1_method_9_code
def y_Desk_part : MethodName := ⟨"OrderDesk", "part", "(II)Z"⟩
theorem k_Desk_part : Cond.code y_Desk_part b_Desk_part 5 (some .boolean) ∈ gw := gw_of (List.mem_of_getElem? (i := 262) rfl) rfl
abbrev b_Orders_part : ByteArray := prog_6_method_7_code
def y_Orders_part : MethodName := ⟨"OrderDesk$Orders", "part", "(LOrderDesk$Item;LOrderDesk$Member;)V"⟩
theorem k_Orders_part : Cond.code y_Orders_part b_Orders_part 4 none ∈ gw := gw_of (List.mem_of_getElem? (i := 267) rfl) rfl
abbrev b_Item_forget : ByteArray := prog_2_method_6_code
def y_Item_forget : MethodName := ⟨"OrderDesk$Item", "forget", "(LOrderDesk$Member;)V"⟩
theorem k_Item_forget : Cond.code y_Item_forget b_Item_forget 3 none ∈ gw := gw_of (List.mem_of_getElem? (i := 271) rfl) rfl
abbrev b_Desk_heads : ByteArray := prog_1_method_10_code
def y_Desk_heads : MethodName := ⟨"OrderDesk", "heads", "(I)Z"⟩
theorem k_Desk_heads : Cond.code y_Desk_heads b_Desk_heads 2 (some .boolean) ∈ gw := gw_of (List.mem_of_getElem? (i := 275) rfl) rfl
abbrev b_Orders_heads : ByteArray := prog_6_method_8_code
def y_Orders_heads : MethodName := ⟨"OrderDesk$Orders", "heads", "(LOrderDesk$Item;)Z"⟩
theorem k_Orders_heads : Cond.code y_Orders_heads b_Orders_heads 4 (some .boolean) ∈ gw := gw_of (List.mem_of_getElem? (i := 279) rfl) rfl
abbrev b_Desk_before : ByteArray := prog_1_method_11_code
def y_Desk_before : MethodName := ⟨"OrderDesk", "before", "(II)Z"⟩
theorem k_Desk_before : Cond.code y_Desk_before b_Desk_before 5 (some .boolean) ∈ gw := gw_of (List.mem_of_getElem? (i := 283) rfl) rfl
abbrev b_Desk_first : ByteArray := prog_1_method_12_code
def y_Desk_first : MethodName := ⟨"OrderDesk", "first", "()I"⟩
theorem k_Desk_first : Cond.code y_Desk_first b_Desk_first 1 (some .int) ∈ gw := gw_of (List.mem_of_getElem? (i := 288) rfl) rfl
abbrev b_Orders_numberI : ByteArray := prog_6_method_9_code
def y_Orders_numberI : MethodName := ⟨"OrderDesk$Orders", "number", "(LOrderDesk$Item;)I"⟩
theorem k_Orders_numberI : Cond.code y_Orders_numberI b_Orders_numberI 1 (some .int) ∈ gw := gw_of (List.mem_of_getElem? (i := 291) rfl) rfl
abbrev b_Desk_next : ByteArray := prog_1_method_13_code
def y_Desk_next : MethodName := ⟨"OrderDesk", "next", "(I)I"⟩
theorem k_Desk_next : Cond.code y_Desk_next b_Desk_next 3 (some .int) ∈ gw := gw_of (List.mem_of_getElem? (i := 295) rfl) rfl
abbrev b_Desk_head : ByteArray := prog_1_method_15_code
def y_Desk_head : MethodName := ⟨"OrderDesk", "head", "(I)I"⟩
theorem k_Desk_head : Cond.code y_Desk_head b_Desk_head 3 (some .int) ∈ gw := gw_of (List.mem_of_getElem? (i := 299) rfl) rfl
abbrev b_Desk_line : ByteArray := prog_1_method_14_code
def y_Desk_line : MethodName := ⟨"OrderDesk", "line", "(I)LOrderDesk$Line;"⟩
theorem k_Desk_line : Cond.code y_Desk_line b_Desk_line 2 (some (.object "OrderDesk$Line")) ∈ gw := gw_of (List.mem_of_getElem? (i := 303) rfl) rfl
abbrev b_Orders_numberM : ByteArray := prog_6_method_10_code
def y_Orders_numberM : MethodName := ⟨"OrderDesk$Orders", "number", "(LOrderDesk$Member;)I"⟩
theorem k_Orders_numberM : Cond.code y_Orders_numberM b_Orders_numberM 1 (some .int) ∈ gw := gw_of (List.mem_of_getElem? (i := 307) rfl) rfl
abbrev b_Desk_last : ByteArray := prog_1_method_16_code
def y_Desk_last : MethodName := ⟨"OrderDesk", "last", "(I)I"⟩
theorem k_Desk_last : Cond.code y_Desk_last b_Desk_last 3 (some .int) ∈ gw := gw_of (List.mem_of_getElem? (i := 311) rfl) rfl
abbrev b_Desk_behind : ByteArray := prog_1_method_17_code
def y_Desk_behind : MethodName := ⟨"OrderDesk", "behind", "(II)I"⟩
theorem k_Desk_behind : Cond.code y_Desk_behind b_Desk_behind 5 (some .int) ∈ gw := gw_of (List.mem_of_getElem? (i := 315) rfl) rfl
abbrev b_Desk_size : ByteArray := prog_1_method_18_code
def y_Desk_size : MethodName := ⟨"OrderDesk", "size", "(I)I"⟩
theorem k_Desk_size : Cond.code y_Desk_size b_Desk_size 3 (some .int) ∈ gw := gw_of (List.mem_of_getElem? (i := 319) rfl) rfl
abbrev b_Desk_look : ByteArray := prog_1_method_19_code
def y_Desk_look : MethodName := ⟨"OrderDesk", "look", "(II)I"⟩
theorem k_Desk_look : Cond.code y_Desk_look b_Desk_look 4 (some .int) ∈ gw := gw_of (List.mem_of_getElem? (i := 323) rfl) rfl
abbrev b_Desk_lines : ByteArray := prog_1_method_20_code
def y_Desk_lines : MethodName := ⟨"OrderDesk", "lines", "()I"⟩
theorem k_Desk_lines : Cond.code y_Desk_lines b_Desk_lines 1 (some .int) ∈ gw := gw_of (List.mem_of_getElem? (i := 327) rfl) rfl
abbrev b_Model_init : ByteArray := prog_8_method_1_code
def y_Model_init : MethodName := ⟨"OrderDeskModel", "<init>", "()V"⟩
theorem k_Model_init : Cond.code y_Model_init b_Model_init 1 none ∈ gw := gw_of (List.mem_of_getElem? (i := 332) rfl) rfl
abbrev b_Model_take : ByteArray := prog_8_method_7_code
def y_Model_take : MethodName := ⟨"OrderDeskModel", "take", "(II)Z"⟩
theorem k_Model_take : Cond.code y_Model_take b_Model_take 3 (some .boolean) ∈ gw := gw_of (List.mem_of_getElem? (i := 358) rfl) rfl
abbrev b_Model_isItem : ByteArray := prog_8_method_2_code
def y_Model_isItem : MethodName := ⟨"OrderDeskModel", "isItem", "(I)Z"⟩
theorem k_Model_isItem : Cond.code y_Model_isItem b_Model_isItem 1 (some .boolean) ∈ gw := gw_of (List.mem_of_getElem? (i := 361) rfl) rfl
abbrev b_Model_more : ByteArray := prog_8_method_6_code
def y_Model_more : MethodName := ⟨"OrderDeskModel", "more", "(II)Z"⟩
theorem k_Model_more : Cond.code y_Model_more b_Model_more 3 (some .boolean) ∈ gw := gw_of (List.mem_of_getElem? (i := 365) rfl) rfl
abbrev b_Model_isPosition : ByteArray := prog_8_method_4_code
def y_Model_isPosition : MethodName := ⟨"OrderDeskModel", "isPosition", "(I)Z"⟩
theorem k_Model_isPosition : Cond.code y_Model_isPosition b_Model_isPosition 1 (some .boolean) ∈ gw := gw_of (List.mem_of_getElem? (i := 368) rfl) rfl
abbrev b_Model_takesFrom : ByteArray := prog_8_method_5_code
def y_Model_takesFrom : MethodName := ⟨"OrderDeskModel", "takesFrom", "(II)Z"⟩
theorem k_Model_takesFrom : Cond.code y_Model_takesFrom b_Model_takesFrom 4 (some .boolean) ∈ gw := gw_of (List.mem_of_getElem? (i := 373) rfl) rfl
abbrev b_Model_join : ByteArray := prog_8_method_8_code
def y_Model_join : MethodName := ⟨"OrderDeskModel", "join", "(II)Z"⟩
theorem k_Model_join : Cond.code y_Model_join b_Model_join 3 (some .boolean) ∈ gw := gw_of (List.mem_of_getElem? (i := 377) rfl) rfl
abbrev b_Model_isQueued : ByteArray := prog_8_method_3_code
def y_Model_isQueued : MethodName := ⟨"OrderDeskModel", "isQueued", "(I)Z"⟩
theorem k_Model_isQueued : Cond.code y_Model_isQueued b_Model_isQueued 2 (some .boolean) ∈ gw := gw_of (List.mem_of_getElem? (i := 381) rfl) rfl
abbrev b_Model_part : ByteArray := prog_8_method_9_code
def y_Model_part : MethodName := ⟨"OrderDeskModel", "part", "(II)Z"⟩
theorem k_Model_part : Cond.code y_Model_part b_Model_part 4 (some .boolean) ∈ gw := gw_of (List.mem_of_getElem? (i := 385) rfl) rfl
abbrev b_Model_come : ByteArray := prog_8_method_12_code
def y_Model_come : MethodName := ⟨"OrderDeskModel", "come", "(II)I"⟩
theorem k_Model_come : Cond.code y_Model_come b_Model_come 3 (some .int) ∈ gw := gw_of (List.mem_of_getElem? (i := 389) rfl) rfl
abbrev b_Model_isPriority : ByteArray := prog_8_method_11_code
def y_Model_isPriority : MethodName := ⟨"OrderDeskModel", "isPriority", "(I)Z"⟩
theorem k_Model_isPriority : Cond.code y_Model_isPriority b_Model_isPriority 1 (some .boolean) ∈ gw := gw_of (List.mem_of_getElem? (i := 392) rfl) rfl
abbrev b_Model_arrive : ByteArray := prog_8_method_10_code
def y_Model_arrive : MethodName := ⟨"OrderDeskModel", "arrive", "(II)I"⟩
theorem k_Model_arrive : Cond.code y_Model_arrive b_Model_arrive 3 (some .int) ∈ gw := gw_of (List.mem_of_getElem? (i := 396) rfl) rfl
abbrev b_Model_leave : ByteArray := prog_8_method_13_code
def y_Model_leave : MethodName := ⟨"OrderDeskModel", "leave", "(I)Z"⟩
theorem k_Model_leave : Cond.code y_Model_leave b_Model_leave 2 (some .boolean) ∈ gw := gw_of (List.mem_of_getElem? (i := 400) rfl) rfl
abbrev b_Model_again : ByteArray := prog_8_method_14_code
def y_Model_again : MethodName := ⟨"OrderDeskModel", "again", "(II)I"⟩
theorem k_Model_again : Cond.code y_Model_again b_Model_again 3 (some .int) ∈ gw := gw_of (List.mem_of_getElem? (i := 404) rfl) rfl
abbrev b_Model_heads : ByteArray := prog_8_method_18_code
def y_Model_heads : MethodName := ⟨"OrderDeskModel", "heads", "(I)Z"⟩
theorem k_Model_heads : Cond.code y_Model_heads b_Model_heads 3 (some .boolean) ∈ gw := gw_of (List.mem_of_getElem? (i := 408) rfl) rfl
abbrev b_Model_nearest : ByteArray := prog_8_method_17_code
def y_Model_nearest : MethodName := ⟨"OrderDeskModel", "nearest", "(IIZ)I"⟩
theorem k_Model_nearest : Cond.code y_Model_nearest b_Model_nearest 7 (some .int) ∈ gw := gw_of (List.mem_of_getElem? (i := 412) rfl) rfl
abbrev b_Model_isOf : ByteArray := prog_8_method_16_code
def y_Model_isOf : MethodName := ⟨"OrderDeskModel", "isOf", "(II)Z"⟩
theorem k_Model_isOf : Cond.code y_Model_isOf b_Model_isOf 3 (some .boolean) ∈ gw := gw_of (List.mem_of_getElem? (i := 416) rfl) rfl
abbrev b_Model_stands : ByteArray := prog_8_method_15_code
def y_Model_stands : MethodName := ⟨"OrderDeskModel", "stands", "(II)Z"⟩
theorem k_Model_stands : Cond.code y_Model_stands b_Model_stands 3 (some .boolean) ∈ gw := gw_of (List.mem_of_getElem? (i := 420) rfl) rfl
abbrev b_Model_before : ByteArray := prog_8_method_19_code
def y_Model_before : MethodName := ⟨"OrderDeskModel", "before", "(II)Z"⟩
theorem k_Model_before : Cond.code y_Model_before b_Model_before 3 (some .boolean) ∈ gw := gw_of (List.mem_of_getElem? (i := 424) rfl) rfl
abbrev b_Model_first : ByteArray := prog_8_method_20_code
def y_Model_first : MethodName := ⟨"OrderDeskModel", "first", "()I"⟩
theorem k_Model_first : Cond.code y_Model_first b_Model_first 1 (some .int) ∈ gw := gw_of (List.mem_of_getElem? (i := 428) rfl) rfl
abbrev b_Model_next : ByteArray := prog_8_method_21_code
def y_Model_next : MethodName := ⟨"OrderDeskModel", "next", "(I)I"⟩
theorem k_Model_next : Cond.code y_Model_next b_Model_next 2 (some .int) ∈ gw := gw_of (List.mem_of_getElem? (i := 432) rfl) rfl
abbrev b_Model_head : ByteArray := prog_8_method_22_code
def y_Model_head : MethodName := ⟨"OrderDeskModel", "head", "(I)I"⟩
theorem k_Model_head : Cond.code y_Model_head b_Model_head 2 (some .int) ∈ gw := gw_of (List.mem_of_getElem? (i := 436) rfl) rfl
abbrev b_Model_last : ByteArray := prog_8_method_23_code
def y_Model_last : MethodName := ⟨"OrderDeskModel", "last", "(I)I"⟩
theorem k_Model_last : Cond.code y_Model_last b_Model_last 2 (some .int) ∈ gw := gw_of (List.mem_of_getElem? (i := 440) rfl) rfl
abbrev b_Model_behind : ByteArray := prog_8_method_24_code
def y_Model_behind : MethodName := ⟨"OrderDeskModel", "behind", "(II)I"⟩
theorem k_Model_behind : Cond.code y_Model_behind b_Model_behind 3 (some .int) ∈ gw := gw_of (List.mem_of_getElem? (i := 444) rfl) rfl
abbrev b_Model_size : ByteArray := prog_8_method_25_code
def y_Model_size : MethodName := ⟨"OrderDeskModel", "size", "(I)I"⟩
theorem k_Model_size : Cond.code y_Model_size b_Model_size 4 (some .int) ∈ gw := gw_of (List.mem_of_getElem? (i := 448) rfl) rfl
abbrev b_Model_look : ByteArray := prog_8_method_26_code
def y_Model_look : MethodName := ⟨"OrderDeskModel", "look", "(II)I"⟩
theorem k_Model_look : Cond.code y_Model_look b_Model_look 3 (some .int) ∈ gw := gw_of (List.mem_of_getElem? (i := 452) rfl) rfl
abbrev b_Model_lines : ByteArray := prog_8_method_27_code
def y_Model_lines : MethodName := ⟨"OrderDeskModel", "lines", "()I"⟩
theorem k_Model_lines : Cond.code y_Model_lines b_Model_lines 4 (some .int) ∈ gw := gw_of (List.mem_of_getElem? (i := 456) rfl) rfl
/-- a call by entry ix of the class own to method y of n arguments: instance (virtual), static, constructor -/
def MB (y : MethodName) (n : Nat) : Prop := Cond.initialized y.cls ∈ gw ∧ (y.cls ≠ "java/lang/invoke/MethodHandle" ∧ y.cls ≠ "java/lang/invoke/VarHandle") ∧ (parseMethodDescriptor y.desc).map (fun d => d.parameters.length) = some n
def ML (own : String) (ix : Nat) (y : MethodName) (n : Nat) : Prop := Cond.methodLink own ix y ∈ gw ∧ MB y n
def MV (y : MethodName) : Prop := Cond.instanceMethod y ∈ gw ∧ Cond.selects y.cls y y ∈ gw
theorem mb_Desk_init : MB y_Desk_init 0 := ⟨gw_of (List.mem_of_getElem? (i := 1) (by decide +kernel)) rfl, ⟨by decide +kernel, by decide +kernel⟩, by decide +kernel⟩
theorem mi_Desk_init : Cond.instanceMethod y_Desk_init ∈ gw := gw_of (List.mem_of_getElem? (i := 11) (by decide +kernel)) rfl
theorem mb_Orders_init : MB y_Orders_init 1 := ⟨gw_of (List.mem_of_getElem? (i := 2) (by decide +kernel)) rfl, ⟨by decide +kernel, by decide +kernel⟩, by decide +kernel⟩
theorem mi_Orders_init : Cond.instanceMethod y_Orders_init ∈ gw := gw_of (List.mem_of_getElem? (i := 19) (by decide +kernel)) rfl
theorem mb_Item_init : MB y_Item_init 1 := ⟨gw_of (List.mem_of_getElem? (i := 3) (by decide +kernel)) rfl, ⟨by decide +kernel, by decide +kernel⟩, by decide +kernel⟩
theorem mi_Item_init : Cond.instanceMethod y_Item_init ∈ gw := gw_of (List.mem_of_getElem? (i := 26) (by decide +kernel)) rfl
theorem mb_Member_init : MB y_Member_init 0 := ⟨gw_of (List.mem_of_getElem? (i := 4) (by decide +kernel)) rfl, ⟨by decide +kernel, by decide +kernel⟩, by decide +kernel⟩
theorem mi_Member_init : Cond.instanceMethod y_Member_init ∈ gw := gw_of (List.mem_of_getElem? (i := 33) (by decide +kernel)) rfl
theorem mb_Item_begin : MB y_Item_begin 0 := ⟨gw_of (List.mem_of_getElem? (i := 3) (by decide +kernel)) rfl, ⟨by decide +kernel, by decide +kernel⟩, by decide +kernel⟩
theorem mi_Item_begin : Cond.instanceMethod y_Item_begin ∈ gw := gw_of (List.mem_of_getElem? (i := 96) (by decide +kernel)) rfl
theorem mv_Item_begin : MV y_Item_begin := ⟨mi_Item_begin, gw_of (List.mem_of_getElem? (i := 97) (by decide +kernel)) rfl⟩
theorem mb_Lines_init : MB y_Lines_init 1 := ⟨gw_of (List.mem_of_getElem? (i := 5) (by decide +kernel)) rfl, ⟨by decide +kernel, by decide +kernel⟩, by decide +kernel⟩
theorem mi_Lines_init : Cond.instanceMethod y_Lines_init ∈ gw := gw_of (List.mem_of_getElem? (i := 102) (by decide +kernel)) rfl
theorem mb_Line_init : MB y_Line_init 0 := ⟨gw_of (List.mem_of_getElem? (i := 6) (by decide +kernel)) rfl, ⟨by decide +kernel, by decide +kernel⟩, by decide +kernel⟩
theorem mi_Line_init : Cond.instanceMethod y_Line_init ∈ gw := gw_of (List.mem_of_getElem? (i := 109) (by decide +kernel)) rfl
theorem mb_Lines_give : MB y_Lines_give 1 := ⟨gw_of (List.mem_of_getElem? (i := 5) (by decide +kernel)) rfl, ⟨by decide +kernel, by decide +kernel⟩, by decide +kernel⟩
theorem mi_Lines_give : Cond.instanceMethod y_Lines_give ∈ gw := gw_of (List.mem_of_getElem? (i := 134) (by decide +kernel)) rfl
theorem mv_Lines_give : MV y_Lines_give := ⟨mi_Lines_give, gw_sel (List.mem_of_getElem? (i := 0) (by decide +kernel)) rfl⟩
theorem mb_Desk_take : MB y_Desk_take 2 := ⟨gw_of (List.mem_of_getElem? (i := 1) (by decide +kernel)) rfl, ⟨by decide +kernel, by decide +kernel⟩, by decide +kernel⟩
theorem mi_Desk_take : Cond.instanceMethod y_Desk_take ∈ gw := gw_of (List.mem_of_getElem? (i := 175) (by decide +kernel)) rfl
theorem mv_Desk_take : MV y_Desk_take := ⟨mi_Desk_take, gw_of (List.mem_of_getElem? (i := 176) (by decide +kernel)) rfl⟩
theorem mb_Orders_isItem : MB y_Orders_isItem 1 := ⟨gw_of (List.mem_of_getElem? (i := 2) (by decide +kernel)) rfl, ⟨by decide +kernel, by decide +kernel⟩, by decide +kernel⟩
theorem mi_Orders_isItem : Cond.instanceMethod y_Orders_isItem ∈ gw := gw_of (List.mem_of_getElem? (i := 179) (by decide +kernel)) rfl
theorem mv_Orders_isItem : MV y_Orders_isItem := ⟨mi_Orders_isItem, gw_of (List.mem_of_getElem? (i := 180) (by decide +kernel)) rfl⟩
theorem mb_Orders_queued : MB y_Orders_queued 1 := ⟨gw_of (List.mem_of_getElem? (i := 2) (by decide +kernel)) rfl, ⟨by decide +kernel, by decide +kernel⟩, by decide +kernel⟩
theorem mi_Orders_queued : Cond.instanceMethod y_Orders_queued ∈ gw := gw_of (List.mem_of_getElem? (i := 183) (by decide +kernel)) rfl
theorem mv_Orders_queued : MV y_Orders_queued := ⟨mi_Orders_queued, gw_of (List.mem_of_getElem? (i := 184) (by decide +kernel)) rfl⟩
theorem mb_Desk_isPosition : MB y_Desk_isPosition 1 := ⟨gw_of (List.mem_of_getElem? (i := 1) (by decide +kernel)) rfl, ⟨by decide +kernel, by decide +kernel⟩, by decide +kernel⟩
theorem ms_Desk_isPosition : Cond.static y_Desk_isPosition ∈ gw := gw_of (List.mem_of_getElem? (i := 188) (by decide +kernel)) rfl
theorem mb_Item_take : MB y_Item_take 1 := ⟨gw_of (List.mem_of_getElem? (i := 3) (by decide +kernel)) rfl, ⟨by decide +kernel, by decide +kernel⟩, by decide +kernel⟩
theorem mi_Item_take : Cond.instanceMethod y_Item_take ∈ gw := gw_of (List.mem_of_getElem? (i := 192) (by decide +kernel)) rfl
theorem mv_Item_take : MV y_Item_take := ⟨mi_Item_take, gw_of (List.mem_of_getElem? (i := 193) (by decide +kernel)) rfl⟩
theorem mb_Item_of : MB y_Item_of 1 := ⟨gw_of (List.mem_of_getElem? (i := 3) (by decide +kernel)) rfl, ⟨by decide +kernel, by decide +kernel⟩, by decide +kernel⟩
theorem mi_Item_of : Cond.instanceMethod y_Item_of ∈ gw := gw_of (List.mem_of_getElem? (i := 196) (by decide +kernel)) rfl
theorem mv_Item_of : MV y_Item_of := ⟨mi_Item_of, gw_of (List.mem_of_getElem? (i := 197) (by decide +kernel)) rfl⟩
theorem mb_Desk_come : MB y_Desk_come 2 := ⟨gw_of (List.mem_of_getElem? (i := 1) (by decide +kernel)) rfl, ⟨by decide +kernel, by decide +kernel⟩, by decide +kernel⟩
theorem mi_Desk_come : Cond.instanceMethod y_Desk_come ∈ gw := gw_of (List.mem_of_getElem? (i := 200) (by decide +kernel)) rfl
theorem mv_Desk_come : MV y_Desk_come := ⟨mi_Desk_come, gw_of (List.mem_of_getElem? (i := 201) (by decide +kernel)) rfl⟩
theorem mb_Desk_isPriority : MB y_Desk_isPriority 1 := ⟨gw_of (List.mem_of_getElem? (i := 1) (by decide +kernel)) rfl, ⟨by decide +kernel, by decide +kernel⟩, by decide +kernel⟩
theorem ms_Desk_isPriority : Cond.static y_Desk_isPriority ∈ gw := gw_of (List.mem_of_getElem? (i := 204) (by decide +kernel)) rfl
theorem mb_Orders_enter : MB y_Orders_enter 2 := ⟨gw_of (List.mem_of_getElem? (i := 2) (by decide +kernel)) rfl, ⟨by decide +kernel, by decide +kernel⟩, by decide +kernel⟩
theorem mi_Orders_enter : Cond.instanceMethod y_Orders_enter ∈ gw := gw_of (List.mem_of_getElem? (i := 207) (by decide +kernel)) rfl
theorem mv_Orders_enter : MV y_Orders_enter := ⟨mi_Orders_enter, gw_of (List.mem_of_getElem? (i := 208) (by decide +kernel)) rfl⟩
theorem mb_Item_isBefore : MB y_Item_isBefore 1 := ⟨gw_of (List.mem_of_getElem? (i := 3) (by decide +kernel)) rfl, ⟨by decide +kernel, by decide +kernel⟩, by decide +kernel⟩
theorem mi_Item_isBefore : Cond.instanceMethod y_Item_isBefore ∈ gw := gw_of (List.mem_of_getElem? (i := 211) (by decide +kernel)) rfl
theorem mv_Item_isBefore : MV y_Item_isBefore := ⟨mi_Item_isBefore, gw_of (List.mem_of_getElem? (i := 212) (by decide +kernel)) rfl⟩
theorem mb_Lines_need : MB y_Lines_need 1 := ⟨gw_of (List.mem_of_getElem? (i := 5) (by decide +kernel)) rfl, ⟨by decide +kernel, by decide +kernel⟩, by decide +kernel⟩
theorem mi_Lines_need : Cond.instanceMethod y_Lines_need ∈ gw := gw_of (List.mem_of_getElem? (i := 215) (by decide +kernel)) rfl
theorem mv_Lines_need : MV y_Lines_need := ⟨mi_Lines_need, gw_of (List.mem_of_getElem? (i := 216) (by decide +kernel)) rfl⟩
theorem mb_Lines_find : MB y_Lines_find 1 := ⟨gw_of (List.mem_of_getElem? (i := 5) (by decide +kernel)) rfl, ⟨by decide +kernel, by decide +kernel⟩, by decide +kernel⟩
theorem mi_Lines_find : Cond.instanceMethod y_Lines_find ∈ gw := gw_of (List.mem_of_getElem? (i := 219) (by decide +kernel)) rfl
theorem mv_Lines_find : MV y_Lines_find := ⟨mi_Lines_find, gw_of (List.mem_of_getElem? (i := 220) (by decide +kernel)) rfl⟩
theorem mb_Lines_chain : MB y_Lines_chain 1 := ⟨gw_of (List.mem_of_getElem? (i := 5) (by decide +kernel)) rfl, ⟨by decide +kernel, by decide +kernel⟩, by decide +kernel⟩
theorem ms_Lines_chain : Cond.static y_Lines_chain ∈ gw := gw_of (List.mem_of_getElem? (i := 223) (by decide +kernel)) rfl
theorem mb_Line_insert : MB y_Line_insert 1 := ⟨gw_of (List.mem_of_getElem? (i := 6) (by decide +kernel)) rfl, ⟨by decide +kernel, by decide +kernel⟩, by decide +kernel⟩
theorem mi_Line_insert : Cond.instanceMethod y_Line_insert ∈ gw := gw_of (List.mem_of_getElem? (i := 226) (by decide +kernel)) rfl
theorem mv_Line_insert : MV y_Line_insert := ⟨mi_Line_insert, gw_of (List.mem_of_getElem? (i := 227) (by decide +kernel)) rfl⟩
theorem mb_Desk_leave : MB y_Desk_leave 1 := ⟨gw_of (List.mem_of_getElem? (i := 1) (by decide +kernel)) rfl, ⟨by decide +kernel, by decide +kernel⟩, by decide +kernel⟩
theorem mi_Desk_leave : Cond.instanceMethod y_Desk_leave ∈ gw := gw_of (List.mem_of_getElem? (i := 231) (by decide +kernel)) rfl
theorem mv_Desk_leave : MV y_Desk_leave := ⟨mi_Desk_leave, gw_of (List.mem_of_getElem? (i := 232) (by decide +kernel)) rfl⟩
theorem mb_Orders_exit : MB y_Orders_exit 1 := ⟨gw_of (List.mem_of_getElem? (i := 2) (by decide +kernel)) rfl, ⟨by decide +kernel, by decide +kernel⟩, by decide +kernel⟩
theorem mi_Orders_exit : Cond.instanceMethod y_Orders_exit ∈ gw := gw_of (List.mem_of_getElem? (i := 235) (by decide +kernel)) rfl
theorem mv_Orders_exit : MV y_Orders_exit := ⟨mi_Orders_exit, gw_of (List.mem_of_getElem? (i := 236) (by decide +kernel)) rfl⟩
theorem mb_Line_remove : MB y_Line_remove 1 := ⟨gw_of (List.mem_of_getElem? (i := 6) (by decide +kernel)) rfl, ⟨by decide +kernel, by decide +kernel⟩, by decide +kernel⟩
theorem mi_Line_remove : Cond.instanceMethod y_Line_remove ∈ gw := gw_of (List.mem_of_getElem? (i := 239) (by decide +kernel)) rfl
theorem mv_Line_remove : MV y_Line_remove := ⟨mi_Line_remove, gw_of (List.mem_of_getElem? (i := 240) (by decide +kernel)) rfl⟩
theorem mb_Lines_drop : MB y_Lines_drop 1 := ⟨gw_of (List.mem_of_getElem? (i := 5) (by decide +kernel)) rfl, ⟨by decide +kernel, by decide +kernel⟩, by decide +kernel⟩
theorem mi_Lines_drop : Cond.instanceMethod y_Lines_drop ∈ gw := gw_of (List.mem_of_getElem? (i := 243) (by decide +kernel)) rfl
theorem mv_Lines_drop : MV y_Lines_drop := ⟨mi_Lines_drop, gw_of (List.mem_of_getElem? (i := 244) (by decide +kernel)) rfl⟩
theorem mb_Desk_again : MB y_Desk_again 2 := ⟨gw_of (List.mem_of_getElem? (i := 1) (by decide +kernel)) rfl, ⟨by decide +kernel, by decide +kernel⟩, by decide +kernel⟩
theorem mi_Desk_again : Cond.instanceMethod y_Desk_again ∈ gw := gw_of (List.mem_of_getElem? (i := 247) (by decide +kernel)) rfl
theorem mv_Desk_again : MV y_Desk_again := ⟨mi_Desk_again, gw_of (List.mem_of_getElem? (i := 248) (by decide +kernel)) rfl⟩
theorem mb_Desk_join : MB y_Desk_join 2 := ⟨gw_of (List.mem_of_getElem? (i := 1) (by decide +kernel)) rfl, ⟨by decide +kernel, by decide +kernel⟩, by decide +kernel⟩
theorem mi_Desk_join : Cond.instanceMethod y_Desk_join ∈ gw := gw_of (List.mem_of_getElem? (i := 251) (by decide +kernel)) rfl
theorem mv_Desk_join : MV y_Desk_join := ⟨mi_Desk_join, gw_of (List.mem_of_getElem? (i := 252) (by decide +kernel)) rfl⟩
theorem mb_Orders_join : MB y_Orders_join 2 := ⟨gw_of (List.mem_of_getElem? (i := 2) (by decide +kernel)) rfl, ⟨by decide +kernel, by decide +kernel⟩, by decide +kernel⟩
theorem mi_Orders_join : Cond.instanceMethod y_Orders_join ∈ gw := gw_of (List.mem_of_getElem? (i := 255) (by decide +kernel)) rfl
theorem mv_Orders_join : MV y_Orders_join := ⟨mi_Orders_join, gw_of (List.mem_of_getElem? (i := 256) (by decide +kernel)) rfl⟩
theorem mb_Desk_part : MB y_Desk_part 2 := ⟨gw_of (List.mem_of_getElem? (i := 1) (by decide +kernel)) rfl, ⟨by decide +kernel, by decide +kernel⟩, by decide +kernel⟩
theorem mi_Desk_part : Cond.instanceMethod y_Desk_part ∈ gw := gw_of (List.mem_of_getElem? (i := 260) (by decide +kernel)) rfl
theorem mv_Desk_part : MV y_Desk_part := ⟨mi_Desk_part, gw_of (List.mem_of_getElem? (i := 261) (by decide +kernel)) rfl⟩
theorem mb_Orders_part : MB y_Orders_part 2 := ⟨gw_of (List.mem_of_getElem? (i := 2) (by decide +kernel)) rfl, ⟨by decide +kernel, by decide +kernel⟩, by decide +kernel⟩
theorem mi_Orders_part : Cond.instanceMethod y_Orders_part ∈ gw := gw_of (List.mem_of_getElem? (i := 265) (by decide +kernel)) rfl
theorem mv_Orders_part : MV y_Orders_part := ⟨mi_Orders_part, gw_of (List.mem_of_getElem? (i := 266) (by decide +kernel)) rfl⟩
theorem mb_Item_forget : MB y_Item_forget 1 := ⟨gw_of (List.mem_of_getElem? (i := 3) (by decide +kernel)) rfl, ⟨by decide +kernel, by decide +kernel⟩, by decide +kernel⟩
theorem mi_Item_forget : Cond.instanceMethod y_Item_forget ∈ gw := gw_of (List.mem_of_getElem? (i := 269) (by decide +kernel)) rfl
theorem mv_Item_forget : MV y_Item_forget := ⟨mi_Item_forget, gw_of (List.mem_of_getElem? (i := 270) (by decide +kernel)) rfl⟩
theorem mb_Desk_heads : MB y_Desk_heads 1 := ⟨gw_of (List.mem_of_getElem? (i := 1) (by decide +kernel)) rfl, ⟨by decide +kernel, by decide +kernel⟩, by decide +kernel⟩
theorem mi_Desk_heads : Cond.instanceMethod y_Desk_heads ∈ gw := gw_of (List.mem_of_getElem? (i := 273) (by decide +kernel)) rfl
theorem mv_Desk_heads : MV y_Desk_heads := ⟨mi_Desk_heads, gw_of (List.mem_of_getElem? (i := 274) (by decide +kernel)) rfl⟩
theorem mb_Orders_heads : MB y_Orders_heads 1 := ⟨gw_of (List.mem_of_getElem? (i := 2) (by decide +kernel)) rfl, ⟨by decide +kernel, by decide +kernel⟩, by decide +kernel⟩
theorem mi_Orders_heads : Cond.instanceMethod y_Orders_heads ∈ gw := gw_of (List.mem_of_getElem? (i := 277) (by decide +kernel)) rfl
theorem mv_Orders_heads : MV y_Orders_heads := ⟨mi_Orders_heads, gw_of (List.mem_of_getElem? (i := 278) (by decide +kernel)) rfl⟩
theorem mb_Desk_before : MB y_Desk_before 2 := ⟨gw_of (List.mem_of_getElem? (i := 1) (by decide +kernel)) rfl, ⟨by decide +kernel, by decide +kernel⟩, by decide +kernel⟩
theorem mi_Desk_before : Cond.instanceMethod y_Desk_before ∈ gw := gw_of (List.mem_of_getElem? (i := 281) (by decide +kernel)) rfl
theorem mv_Desk_before : MV y_Desk_before := ⟨mi_Desk_before, gw_of (List.mem_of_getElem? (i := 282) (by decide +kernel)) rfl⟩
theorem mb_Desk_first : MB y_Desk_first 0 := ⟨gw_of (List.mem_of_getElem? (i := 1) (by decide +kernel)) rfl, ⟨by decide +kernel, by decide +kernel⟩, by decide +kernel⟩
theorem mi_Desk_first : Cond.instanceMethod y_Desk_first ∈ gw := gw_of (List.mem_of_getElem? (i := 286) (by decide +kernel)) rfl
theorem mv_Desk_first : MV y_Desk_first := ⟨mi_Desk_first, gw_of (List.mem_of_getElem? (i := 287) (by decide +kernel)) rfl⟩
theorem mb_Orders_numberI : MB y_Orders_numberI 1 := ⟨gw_of (List.mem_of_getElem? (i := 2) (by decide +kernel)) rfl, ⟨by decide +kernel, by decide +kernel⟩, by decide +kernel⟩
theorem ms_Orders_numberI : Cond.static y_Orders_numberI ∈ gw := gw_of (List.mem_of_getElem? (i := 290) (by decide +kernel)) rfl
theorem mb_Desk_next : MB y_Desk_next 1 := ⟨gw_of (List.mem_of_getElem? (i := 1) (by decide +kernel)) rfl, ⟨by decide +kernel, by decide +kernel⟩, by decide +kernel⟩
theorem mi_Desk_next : Cond.instanceMethod y_Desk_next ∈ gw := gw_of (List.mem_of_getElem? (i := 293) (by decide +kernel)) rfl
theorem mv_Desk_next : MV y_Desk_next := ⟨mi_Desk_next, gw_of (List.mem_of_getElem? (i := 294) (by decide +kernel)) rfl⟩
theorem mb_Desk_head : MB y_Desk_head 1 := ⟨gw_of (List.mem_of_getElem? (i := 1) (by decide +kernel)) rfl, ⟨by decide +kernel, by decide +kernel⟩, by decide +kernel⟩
theorem mi_Desk_head : Cond.instanceMethod y_Desk_head ∈ gw := gw_of (List.mem_of_getElem? (i := 297) (by decide +kernel)) rfl
theorem mv_Desk_head : MV y_Desk_head := ⟨mi_Desk_head, gw_of (List.mem_of_getElem? (i := 298) (by decide +kernel)) rfl⟩
theorem mb_Desk_line : MB y_Desk_line 1 := ⟨gw_of (List.mem_of_getElem? (i := 1) (by decide +kernel)) rfl, ⟨by decide +kernel, by decide +kernel⟩, by decide +kernel⟩
theorem mi_Desk_line : Cond.instanceMethod y_Desk_line ∈ gw := gw_of (List.mem_of_getElem? (i := 302) (by decide +kernel)) rfl
theorem mv_Desk_line : MV y_Desk_line := ⟨mi_Desk_line, gw_sel (List.mem_of_getElem? (i := 1) (by decide +kernel)) rfl⟩
theorem mb_Orders_numberM : MB y_Orders_numberM 1 := ⟨gw_of (List.mem_of_getElem? (i := 2) (by decide +kernel)) rfl, ⟨by decide +kernel, by decide +kernel⟩, by decide +kernel⟩
theorem ms_Orders_numberM : Cond.static y_Orders_numberM ∈ gw := gw_of (List.mem_of_getElem? (i := 306) (by decide +kernel)) rfl
theorem mb_Desk_last : MB y_Desk_last 1 := ⟨gw_of (List.mem_of_getElem? (i := 1) (by decide +kernel)) rfl, ⟨by decide +kernel, by decide +kernel⟩, by decide +kernel⟩
theorem mi_Desk_last : Cond.instanceMethod y_Desk_last ∈ gw := gw_of (List.mem_of_getElem? (i := 309) (by decide +kernel)) rfl
theorem mv_Desk_last : MV y_Desk_last := ⟨mi_Desk_last, gw_of (List.mem_of_getElem? (i := 310) (by decide +kernel)) rfl⟩
theorem mb_Desk_behind : MB y_Desk_behind 2 := ⟨gw_of (List.mem_of_getElem? (i := 1) (by decide +kernel)) rfl, ⟨by decide +kernel, by decide +kernel⟩, by decide +kernel⟩
theorem mi_Desk_behind : Cond.instanceMethod y_Desk_behind ∈ gw := gw_of (List.mem_of_getElem? (i := 313) (by decide +kernel)) rfl
theorem mv_Desk_behind : MV y_Desk_behind := ⟨mi_Desk_behind, gw_of (List.mem_of_getElem? (i := 314) (by decide +kernel)) rfl⟩
theorem mb_Desk_size : MB y_Desk_size 1 := ⟨gw_of (List.mem_of_getElem? (i := 1) (by decide +kernel)) rfl, ⟨by decide +kernel, by decide +kernel⟩, by decide +kernel⟩
theorem mi_Desk_size : Cond.instanceMethod y_Desk_size ∈ gw := gw_of (List.mem_of_getElem? (i := 317) (by decide +kernel)) rfl
theorem mv_Desk_size : MV y_Desk_size := ⟨mi_Desk_size, gw_of (List.mem_of_getElem? (i := 318) (by decide +kernel)) rfl⟩
theorem mb_Desk_look : MB y_Desk_look 2 := ⟨gw_of (List.mem_of_getElem? (i := 1) (by decide +kernel)) rfl, ⟨by decide +kernel, by decide +kernel⟩, by decide +kernel⟩
theorem mi_Desk_look : Cond.instanceMethod y_Desk_look ∈ gw := gw_of (List.mem_of_getElem? (i := 321) (by decide +kernel)) rfl
theorem mv_Desk_look : MV y_Desk_look := ⟨mi_Desk_look, gw_of (List.mem_of_getElem? (i := 322) (by decide +kernel)) rfl⟩
theorem mb_Desk_lines : MB y_Desk_lines 0 := ⟨gw_of (List.mem_of_getElem? (i := 1) (by decide +kernel)) rfl, ⟨by decide +kernel, by decide +kernel⟩, by decide +kernel⟩
theorem mi_Desk_lines : Cond.instanceMethod y_Desk_lines ∈ gw := gw_of (List.mem_of_getElem? (i := 325) (by decide +kernel)) rfl
theorem mv_Desk_lines : MV y_Desk_lines := ⟨mi_Desk_lines, gw_of (List.mem_of_getElem? (i := 326) (by decide +kernel)) rfl⟩
theorem mb_Model_init : MB y_Model_init 0 := ⟨gw_of (List.mem_of_getElem? (i := 7) (by decide +kernel)) rfl, ⟨by decide +kernel, by decide +kernel⟩, by decide +kernel⟩
theorem mi_Model_init : Cond.instanceMethod y_Model_init ∈ gw := gw_of (List.mem_of_getElem? (i := 331) (by decide +kernel)) rfl
theorem mb_Model_take : MB y_Model_take 2 := ⟨gw_of (List.mem_of_getElem? (i := 7) (by decide +kernel)) rfl, ⟨by decide +kernel, by decide +kernel⟩, by decide +kernel⟩
theorem mi_Model_take : Cond.instanceMethod y_Model_take ∈ gw := gw_of (List.mem_of_getElem? (i := 356) (by decide +kernel)) rfl
theorem mv_Model_take : MV y_Model_take := ⟨mi_Model_take, gw_of (List.mem_of_getElem? (i := 357) (by decide +kernel)) rfl⟩
theorem mb_Model_isItem : MB y_Model_isItem 1 := ⟨gw_of (List.mem_of_getElem? (i := 7) (by decide +kernel)) rfl, ⟨by decide +kernel, by decide +kernel⟩, by decide +kernel⟩
theorem ms_Model_isItem : Cond.static y_Model_isItem ∈ gw := gw_of (List.mem_of_getElem? (i := 360) (by decide +kernel)) rfl
theorem mb_Model_more : MB y_Model_more 2 := ⟨gw_of (List.mem_of_getElem? (i := 7) (by decide +kernel)) rfl, ⟨by decide +kernel, by decide +kernel⟩, by decide +kernel⟩
theorem mi_Model_more : Cond.instanceMethod y_Model_more ∈ gw := gw_of (List.mem_of_getElem? (i := 364) (by decide +kernel)) rfl
theorem mv_Model_more : MV y_Model_more := ⟨mi_Model_more, gw_sel (List.mem_of_getElem? (i := 2) (by decide +kernel)) rfl⟩
theorem mb_Model_isPosition : MB y_Model_isPosition 1 := ⟨gw_of (List.mem_of_getElem? (i := 7) (by decide +kernel)) rfl, ⟨by decide +kernel, by decide +kernel⟩, by decide +kernel⟩
theorem ms_Model_isPosition : Cond.static y_Model_isPosition ∈ gw := gw_of (List.mem_of_getElem? (i := 367) (by decide +kernel)) rfl
theorem mb_Model_takesFrom : MB y_Model_takesFrom 2 := ⟨gw_of (List.mem_of_getElem? (i := 7) (by decide +kernel)) rfl, ⟨by decide +kernel, by decide +kernel⟩, by decide +kernel⟩
theorem mi_Model_takesFrom : Cond.instanceMethod y_Model_takesFrom ∈ gw := gw_of (List.mem_of_getElem? (i := 372) (by decide +kernel)) rfl
theorem mv_Model_takesFrom : MV y_Model_takesFrom := ⟨mi_Model_takesFrom, gw_sel (List.mem_of_getElem? (i := 3) (by decide +kernel)) rfl⟩
theorem mb_Model_join : MB y_Model_join 2 := ⟨gw_of (List.mem_of_getElem? (i := 7) (by decide +kernel)) rfl, ⟨by decide +kernel, by decide +kernel⟩, by decide +kernel⟩
theorem mi_Model_join : Cond.instanceMethod y_Model_join ∈ gw := gw_of (List.mem_of_getElem? (i := 375) (by decide +kernel)) rfl
theorem mv_Model_join : MV y_Model_join := ⟨mi_Model_join, gw_of (List.mem_of_getElem? (i := 376) (by decide +kernel)) rfl⟩
theorem mb_Model_isQueued : MB y_Model_isQueued 1 := ⟨gw_of (List.mem_of_getElem? (i := 7) (by decide +kernel)) rfl, ⟨by decide +kernel, by decide +kernel⟩, by decide +kernel⟩
theorem mi_Model_isQueued : Cond.instanceMethod y_Model_isQueued ∈ gw := gw_of (List.mem_of_getElem? (i := 380) (by decide +kernel)) rfl
theorem mv_Model_isQueued : MV y_Model_isQueued := ⟨mi_Model_isQueued, gw_sel (List.mem_of_getElem? (i := 4) (by decide +kernel)) rfl⟩
theorem mb_Model_part : MB y_Model_part 2 := ⟨gw_of (List.mem_of_getElem? (i := 7) (by decide +kernel)) rfl, ⟨by decide +kernel, by decide +kernel⟩, by decide +kernel⟩
theorem mi_Model_part : Cond.instanceMethod y_Model_part ∈ gw := gw_of (List.mem_of_getElem? (i := 383) (by decide +kernel)) rfl
theorem mv_Model_part : MV y_Model_part := ⟨mi_Model_part, gw_of (List.mem_of_getElem? (i := 384) (by decide +kernel)) rfl⟩
theorem mb_Model_come : MB y_Model_come 2 := ⟨gw_of (List.mem_of_getElem? (i := 7) (by decide +kernel)) rfl, ⟨by decide +kernel, by decide +kernel⟩, by decide +kernel⟩
theorem mi_Model_come : Cond.instanceMethod y_Model_come ∈ gw := gw_of (List.mem_of_getElem? (i := 387) (by decide +kernel)) rfl
theorem mv_Model_come : MV y_Model_come := ⟨mi_Model_come, gw_of (List.mem_of_getElem? (i := 388) (by decide +kernel)) rfl⟩
theorem mb_Model_isPriority : MB y_Model_isPriority 1 := ⟨gw_of (List.mem_of_getElem? (i := 7) (by decide +kernel)) rfl, ⟨by decide +kernel, by decide +kernel⟩, by decide +kernel⟩
theorem ms_Model_isPriority : Cond.static y_Model_isPriority ∈ gw := gw_of (List.mem_of_getElem? (i := 391) (by decide +kernel)) rfl
theorem mb_Model_arrive : MB y_Model_arrive 2 := ⟨gw_of (List.mem_of_getElem? (i := 7) (by decide +kernel)) rfl, ⟨by decide +kernel, by decide +kernel⟩, by decide +kernel⟩
theorem mi_Model_arrive : Cond.instanceMethod y_Model_arrive ∈ gw := gw_of (List.mem_of_getElem? (i := 395) (by decide +kernel)) rfl
theorem mv_Model_arrive : MV y_Model_arrive := ⟨mi_Model_arrive, gw_sel (List.mem_of_getElem? (i := 5) (by decide +kernel)) rfl⟩
theorem mb_Model_leave : MB y_Model_leave 1 := ⟨gw_of (List.mem_of_getElem? (i := 7) (by decide +kernel)) rfl, ⟨by decide +kernel, by decide +kernel⟩, by decide +kernel⟩
theorem mi_Model_leave : Cond.instanceMethod y_Model_leave ∈ gw := gw_of (List.mem_of_getElem? (i := 398) (by decide +kernel)) rfl
theorem mv_Model_leave : MV y_Model_leave := ⟨mi_Model_leave, gw_of (List.mem_of_getElem? (i := 399) (by decide +kernel)) rfl⟩
theorem mb_Model_again : MB y_Model_again 2 := ⟨gw_of (List.mem_of_getElem? (i := 7) (by decide +kernel)) rfl, ⟨by decide +kernel, by decide +kernel⟩, by decide +kernel⟩
theorem mi_Model_again : Cond.instanceMethod y_Model_again ∈ gw := gw_of (List.mem_of_getElem? (i := 402) (by decide +kernel)) rfl
theorem mv_Model_again : MV y_Model_again := ⟨mi_Model_again, gw_of (List.mem_of_getElem? (i := 403) (by decide +kernel)) rfl⟩
theorem mb_Model_heads : MB y_Model_heads 1 := ⟨gw_of (List.mem_of_getElem? (i := 7) (by decide +kernel)) rfl, ⟨by decide +kernel, by decide +kernel⟩, by decide +kernel⟩
theorem mi_Model_heads : Cond.instanceMethod y_Model_heads ∈ gw := gw_of (List.mem_of_getElem? (i := 406) (by decide +kernel)) rfl
theorem mv_Model_heads : MV y_Model_heads := ⟨mi_Model_heads, gw_of (List.mem_of_getElem? (i := 407) (by decide +kernel)) rfl⟩
theorem mb_Model_nearest : MB y_Model_nearest 3 := ⟨gw_of (List.mem_of_getElem? (i := 7) (by decide +kernel)) rfl, ⟨by decide +kernel, by decide +kernel⟩, by decide +kernel⟩
theorem mi_Model_nearest : Cond.instanceMethod y_Model_nearest ∈ gw := gw_of (List.mem_of_getElem? (i := 411) (by decide +kernel)) rfl
theorem mv_Model_nearest : MV y_Model_nearest := ⟨mi_Model_nearest, gw_sel (List.mem_of_getElem? (i := 6) (by decide +kernel)) rfl⟩
theorem mb_Model_isOf : MB y_Model_isOf 2 := ⟨gw_of (List.mem_of_getElem? (i := 7) (by decide +kernel)) rfl, ⟨by decide +kernel, by decide +kernel⟩, by decide +kernel⟩
theorem mi_Model_isOf : Cond.instanceMethod y_Model_isOf ∈ gw := gw_of (List.mem_of_getElem? (i := 415) (by decide +kernel)) rfl
theorem mv_Model_isOf : MV y_Model_isOf := ⟨mi_Model_isOf, gw_sel (List.mem_of_getElem? (i := 7) (by decide +kernel)) rfl⟩
theorem mb_Model_stands : MB y_Model_stands 2 := ⟨gw_of (List.mem_of_getElem? (i := 7) (by decide +kernel)) rfl, ⟨by decide +kernel, by decide +kernel⟩, by decide +kernel⟩
theorem mi_Model_stands : Cond.instanceMethod y_Model_stands ∈ gw := gw_of (List.mem_of_getElem? (i := 419) (by decide +kernel)) rfl
theorem mv_Model_stands : MV y_Model_stands := ⟨mi_Model_stands, gw_sel (List.mem_of_getElem? (i := 8) (by decide +kernel)) rfl⟩
theorem mb_Model_before : MB y_Model_before 2 := ⟨gw_of (List.mem_of_getElem? (i := 7) (by decide +kernel)) rfl, ⟨by decide +kernel, by decide +kernel⟩, by decide +kernel⟩
theorem mi_Model_before : Cond.instanceMethod y_Model_before ∈ gw := gw_of (List.mem_of_getElem? (i := 422) (by decide +kernel)) rfl
theorem mv_Model_before : MV y_Model_before := ⟨mi_Model_before, gw_of (List.mem_of_getElem? (i := 423) (by decide +kernel)) rfl⟩
theorem mb_Model_first : MB y_Model_first 0 := ⟨gw_of (List.mem_of_getElem? (i := 7) (by decide +kernel)) rfl, ⟨by decide +kernel, by decide +kernel⟩, by decide +kernel⟩
theorem mi_Model_first : Cond.instanceMethod y_Model_first ∈ gw := gw_of (List.mem_of_getElem? (i := 426) (by decide +kernel)) rfl
theorem mv_Model_first : MV y_Model_first := ⟨mi_Model_first, gw_of (List.mem_of_getElem? (i := 427) (by decide +kernel)) rfl⟩
theorem mb_Model_next : MB y_Model_next 1 := ⟨gw_of (List.mem_of_getElem? (i := 7) (by decide +kernel)) rfl, ⟨by decide +kernel, by decide +kernel⟩, by decide +kernel⟩
theorem mi_Model_next : Cond.instanceMethod y_Model_next ∈ gw := gw_of (List.mem_of_getElem? (i := 430) (by decide +kernel)) rfl
theorem mv_Model_next : MV y_Model_next := ⟨mi_Model_next, gw_of (List.mem_of_getElem? (i := 431) (by decide +kernel)) rfl⟩
theorem mb_Model_head : MB y_Model_head 1 := ⟨gw_of (List.mem_of_getElem? (i := 7) (by decide +kernel)) rfl, ⟨by decide +kernel, by decide +kernel⟩, by decide +kernel⟩
theorem mi_Model_head : Cond.instanceMethod y_Model_head ∈ gw := gw_of (List.mem_of_getElem? (i := 434) (by decide +kernel)) rfl
theorem mv_Model_head : MV y_Model_head := ⟨mi_Model_head, gw_of (List.mem_of_getElem? (i := 435) (by decide +kernel)) rfl⟩
theorem mb_Model_last : MB y_Model_last 1 := ⟨gw_of (List.mem_of_getElem? (i := 7) (by decide +kernel)) rfl, ⟨by decide +kernel, by decide +kernel⟩, by decide +kernel⟩
theorem mi_Model_last : Cond.instanceMethod y_Model_last ∈ gw := gw_of (List.mem_of_getElem? (i := 438) (by decide +kernel)) rfl
theorem mv_Model_last : MV y_Model_last := ⟨mi_Model_last, gw_of (List.mem_of_getElem? (i := 439) (by decide +kernel)) rfl⟩
theorem mb_Model_behind : MB y_Model_behind 2 := ⟨gw_of (List.mem_of_getElem? (i := 7) (by decide +kernel)) rfl, ⟨by decide +kernel, by decide +kernel⟩, by decide +kernel⟩
theorem mi_Model_behind : Cond.instanceMethod y_Model_behind ∈ gw := gw_of (List.mem_of_getElem? (i := 442) (by decide +kernel)) rfl
theorem mv_Model_behind : MV y_Model_behind := ⟨mi_Model_behind, gw_of (List.mem_of_getElem? (i := 443) (by decide +kernel)) rfl⟩
theorem mb_Model_size : MB y_Model_size 1 := ⟨gw_of (List.mem_of_getElem? (i := 7) (by decide +kernel)) rfl, ⟨by decide +kernel, by decide +kernel⟩, by decide +kernel⟩
theorem mi_Model_size : Cond.instanceMethod y_Model_size ∈ gw := gw_of (List.mem_of_getElem? (i := 446) (by decide +kernel)) rfl
theorem mv_Model_size : MV y_Model_size := ⟨mi_Model_size, gw_of (List.mem_of_getElem? (i := 447) (by decide +kernel)) rfl⟩
theorem mb_Model_look : MB y_Model_look 2 := ⟨gw_of (List.mem_of_getElem? (i := 7) (by decide +kernel)) rfl, ⟨by decide +kernel, by decide +kernel⟩, by decide +kernel⟩
theorem mi_Model_look : Cond.instanceMethod y_Model_look ∈ gw := gw_of (List.mem_of_getElem? (i := 450) (by decide +kernel)) rfl
theorem mv_Model_look : MV y_Model_look := ⟨mi_Model_look, gw_of (List.mem_of_getElem? (i := 451) (by decide +kernel)) rfl⟩
theorem mb_Model_lines : MB y_Model_lines 0 := ⟨gw_of (List.mem_of_getElem? (i := 7) (by decide +kernel)) rfl, ⟨by decide +kernel, by decide +kernel⟩, by decide +kernel⟩
theorem mi_Model_lines : Cond.instanceMethod y_Model_lines ∈ gw := gw_of (List.mem_of_getElem? (i := 454) (by decide +kernel)) rfl
theorem mv_Model_lines : MV y_Model_lines := ⟨mi_Model_lines, gw_of (List.mem_of_getElem? (i := 455) (by decide +kernel)) rfl⟩
theorem ml_law_9 : ML "OrderDeskLaw" 9 y_Desk_init 0 := ⟨gw_of (List.mem_of_getElem? (i := 10) (by decide +kernel)) rfl, mb_Desk_init⟩
theorem ml_Desk_1 : Cond.methodLink "OrderDesk" 1 objectInit ∈ gw := gw_of (List.mem_of_getElem? (i := 13) (by decide +kernel)) rfl
theorem ml_Desk_11 : ML "OrderDesk" 11 y_Orders_init 1 := ⟨gw_of (List.mem_of_getElem? (i := 18) (by decide +kernel)) rfl, mb_Orders_init⟩
theorem ml_Orders_1 : Cond.methodLink "OrderDesk$Orders" 1 objectInit ∈ gw := gw_of (List.mem_of_getElem? (i := 21) (by decide +kernel)) rfl
theorem ml_Orders_15 : ML "OrderDesk$Orders" 15 y_Item_init 1 := ⟨gw_of (List.mem_of_getElem? (i := 25) (by decide +kernel)) rfl, mb_Item_init⟩
theorem ml_Item_1 : Cond.methodLink "OrderDesk$Item" 1 objectInit ∈ gw := gw_of (List.mem_of_getElem? (i := 28) (by decide +kernel)) rfl
theorem ml_Item_19 : Cond.methodLinkNest "OrderDesk$Item" 19 y_Member_init "OrderDesk" ∈ tables_1 := List.mem_of_getElem? (i := 32) (by decide +kernel)
theorem ml_Member_1 : Cond.methodLink "OrderDesk$Member" 1 objectInit ∈ gw := gw_of (List.mem_of_getElem? (i := 35) (by decide +kernel)) rfl
theorem ml_Orders_18 : ML "OrderDesk$Orders" 18 y_Item_begin 0 := ⟨gw_of (List.mem_of_getElem? (i := 95) (by decide +kernel)) rfl, mb_Item_begin⟩
theorem ml_Orders_23 : ML "OrderDesk$Orders" 23 y_Lines_init 1 := ⟨gw_of (List.mem_of_getElem? (i := 101) (by decide +kernel)) rfl, mb_Lines_init⟩
theorem ml_Lines_1 : Cond.methodLink "OrderDesk$Lines" 1 objectInit ∈ gw := gw_of (List.mem_of_getElem? (i := 104) (by decide +kernel)) rfl
theorem ml_Lines_15 : Cond.methodLinkNest "OrderDesk$Lines" 15 y_Line_init "OrderDesk" ∈ tables_1 := List.mem_of_getElem? (i := 108) (by decide +kernel)
theorem ml_Line_1 : Cond.methodLink "OrderDesk$Line" 1 objectInit ∈ gw := gw_of (List.mem_of_getElem? (i := 111) (by decide +kernel)) rfl
theorem ml_Lines_16 : ML "OrderDesk$Lines" 16 y_Lines_give 1 := ⟨gw_of (List.mem_of_getElem? (i := 132) (by decide +kernel)) rfl, mb_Lines_give⟩
theorem ml_law_13 : ML "OrderDeskLaw" 13 y_Desk_take 2 := ⟨gw_of (List.mem_of_getElem? (i := 174) (by decide +kernel)) rfl, mb_Desk_take⟩
theorem ml_Desk_19 : ML "OrderDesk" 19 y_Orders_isItem 1 := ⟨gw_of (List.mem_of_getElem? (i := 178) (by decide +kernel)) rfl, mb_Orders_isItem⟩
theorem ml_Desk_23 : ML "OrderDesk" 23 y_Orders_queued 1 := ⟨gw_of (List.mem_of_getElem? (i := 182) (by decide +kernel)) rfl, mb_Orders_queued⟩
theorem ml_Orders_28 : ML "OrderDesk$Orders" 28 y_Orders_isItem 1 := ⟨gw_of (List.mem_of_getElem? (i := 186) (by decide +kernel)) rfl, mb_Orders_isItem⟩
theorem ml_Desk_27 : ML "OrderDesk" 27 y_Desk_isPosition 1 := ⟨gw_of (List.mem_of_getElem? (i := 187) (by decide +kernel)) rfl, mb_Desk_isPosition⟩
theorem ml_Desk_34 : ML "OrderDesk" 34 y_Item_take 1 := ⟨gw_of (List.mem_of_getElem? (i := 191) (by decide +kernel)) rfl, mb_Item_take⟩
theorem ml_Item_36 : ML "OrderDesk$Item" 36 y_Item_of 1 := ⟨gw_of (List.mem_of_getElem? (i := 195) (by decide +kernel)) rfl, mb_Item_of⟩
theorem ml_law_18 : ML "OrderDeskLaw" 18 y_Desk_come 2 := ⟨gw_of (List.mem_of_getElem? (i := 199) (by decide +kernel)) rfl, mb_Desk_come⟩
theorem ml_Desk_39 : ML "OrderDesk" 39 y_Desk_isPriority 1 := ⟨gw_of (List.mem_of_getElem? (i := 203) (by decide +kernel)) rfl, mb_Desk_isPriority⟩
theorem ml_Desk_42 : ML "OrderDesk" 42 y_Orders_enter 2 := ⟨gw_of (List.mem_of_getElem? (i := 206) (by decide +kernel)) rfl, mb_Orders_enter⟩
theorem ml_Orders_50 : ML "OrderDesk$Orders" 50 y_Item_isBefore 1 := ⟨gw_of (List.mem_of_getElem? (i := 210) (by decide +kernel)) rfl, mb_Item_isBefore⟩
theorem ml_Orders_75 : ML "OrderDesk$Orders" 75 y_Lines_need 1 := ⟨gw_of (List.mem_of_getElem? (i := 214) (by decide +kernel)) rfl, mb_Lines_need⟩
theorem ml_Lines_35 : ML "OrderDesk$Lines" 35 y_Lines_find 1 := ⟨gw_of (List.mem_of_getElem? (i := 218) (by decide +kernel)) rfl, mb_Lines_find⟩
theorem ml_Lines_27 : ML "OrderDesk$Lines" 27 y_Lines_chain 1 := ⟨gw_of (List.mem_of_getElem? (i := 222) (by decide +kernel)) rfl, mb_Lines_chain⟩
theorem ml_Orders_79 : ML "OrderDesk$Orders" 79 y_Line_insert 1 := ⟨gw_of (List.mem_of_getElem? (i := 225) (by decide +kernel)) rfl, mb_Line_insert⟩
theorem ml_Line_19 : ML "OrderDesk$Line" 19 y_Item_isBefore 1 := ⟨gw_of (List.mem_of_getElem? (i := 229) (by decide +kernel)) rfl, mb_Item_isBefore⟩
theorem ml_law_23 : ML "OrderDeskLaw" 23 y_Desk_leave 1 := ⟨gw_of (List.mem_of_getElem? (i := 230) (by decide +kernel)) rfl, mb_Desk_leave⟩
theorem ml_Desk_46 : ML "OrderDesk" 46 y_Orders_exit 1 := ⟨gw_of (List.mem_of_getElem? (i := 234) (by decide +kernel)) rfl, mb_Orders_exit⟩
theorem ml_Orders_90 : ML "OrderDesk$Orders" 90 y_Line_remove 1 := ⟨gw_of (List.mem_of_getElem? (i := 238) (by decide +kernel)) rfl, mb_Line_remove⟩
theorem ml_Orders_94 : ML "OrderDesk$Orders" 94 y_Lines_drop 1 := ⟨gw_of (List.mem_of_getElem? (i := 242) (by decide +kernel)) rfl, mb_Lines_drop⟩
theorem ml_law_28 : ML "OrderDeskLaw" 28 y_Desk_again 2 := ⟨gw_of (List.mem_of_getElem? (i := 246) (by decide +kernel)) rfl, mb_Desk_again⟩
theorem ml_law_32 : ML "OrderDeskLaw" 32 y_Desk_join 2 := ⟨gw_of (List.mem_of_getElem? (i := 250) (by decide +kernel)) rfl, mb_Desk_join⟩
theorem ml_Desk_54 : ML "OrderDesk" 54 y_Orders_join 2 := ⟨gw_of (List.mem_of_getElem? (i := 254) (by decide +kernel)) rfl, mb_Orders_join⟩
theorem ml_Orders_98 : ML "OrderDesk$Orders" 98 y_Item_take 1 := ⟨gw_of (List.mem_of_getElem? (i := 258) (by decide +kernel)) rfl, mb_Item_take⟩
theorem ml_law_36 : ML "OrderDeskLaw" 36 y_Desk_part 2 := ⟨gw_of (List.mem_of_getElem? (i := 259) (by decide +kernel)) rfl, mb_Desk_part⟩
theorem ml_Desk_58 : ML "OrderDesk" 58 y_Item_of 1 := ⟨gw_of (List.mem_of_getElem? (i := 263) (by decide +kernel)) rfl, mb_Item_of⟩
theorem ml_Desk_62 : ML "OrderDesk" 62 y_Orders_part 2 := ⟨gw_of (List.mem_of_getElem? (i := 264) (by decide +kernel)) rfl, mb_Orders_part⟩
theorem ml_Orders_101 : ML "OrderDesk$Orders" 101 y_Item_forget 1 := ⟨gw_of (List.mem_of_getElem? (i := 268) (by decide +kernel)) rfl, mb_Item_forget⟩
theorem ml_law_40 : ML "OrderDeskLaw" 40 y_Desk_heads 1 := ⟨gw_of (List.mem_of_getElem? (i := 272) (by decide +kernel)) rfl, mb_Desk_heads⟩
theorem ml_Desk_66 : ML "OrderDesk" 66 y_Orders_heads 1 := ⟨gw_of (List.mem_of_getElem? (i := 276) (by decide +kernel)) rfl, mb_Orders_heads⟩
theorem ml_law_44 : ML "OrderDeskLaw" 44 y_Desk_before 2 := ⟨gw_of (List.mem_of_getElem? (i := 280) (by decide +kernel)) rfl, mb_Desk_before⟩
theorem ml_Desk_70 : ML "OrderDesk" 70 y_Item_isBefore 1 := ⟨gw_of (List.mem_of_getElem? (i := 284) (by decide +kernel)) rfl, mb_Item_isBefore⟩
theorem ml_law_48 : ML "OrderDeskLaw" 48 y_Desk_first 0 := ⟨gw_of (List.mem_of_getElem? (i := 285) (by decide +kernel)) rfl, mb_Desk_first⟩
theorem ml_Desk_77 : ML "OrderDesk" 77 y_Orders_numberI 1 := ⟨gw_of (List.mem_of_getElem? (i := 289) (by decide +kernel)) rfl, mb_Orders_numberI⟩
theorem ml_law_53 : ML "OrderDeskLaw" 53 y_Desk_next 1 := ⟨gw_of (List.mem_of_getElem? (i := 292) (by decide +kernel)) rfl, mb_Desk_next⟩
theorem ml_law_58 : ML "OrderDeskLaw" 58 y_Desk_head 1 := ⟨gw_of (List.mem_of_getElem? (i := 296) (by decide +kernel)) rfl, mb_Desk_head⟩
theorem ml_Desk_94 : ML "OrderDesk" 94 y_Desk_line 1 := ⟨gw_of (List.mem_of_getElem? (i := 300) (by decide +kernel)) rfl, mb_Desk_line⟩
theorem ml_Desk_88 : ML "OrderDesk" 88 y_Lines_find 1 := ⟨gw_of (List.mem_of_getElem? (i := 304) (by decide +kernel)) rfl, mb_Lines_find⟩
theorem ml_Desk_102 : ML "OrderDesk" 102 y_Orders_numberM 1 := ⟨gw_of (List.mem_of_getElem? (i := 305) (by decide +kernel)) rfl, mb_Orders_numberM⟩
theorem ml_law_62 : ML "OrderDeskLaw" 62 y_Desk_last 1 := ⟨gw_of (List.mem_of_getElem? (i := 308) (by decide +kernel)) rfl, mb_Desk_last⟩
theorem ml_law_66 : ML "OrderDeskLaw" 66 y_Desk_behind 2 := ⟨gw_of (List.mem_of_getElem? (i := 312) (by decide +kernel)) rfl, mb_Desk_behind⟩
theorem ml_law_70 : ML "OrderDeskLaw" 70 y_Desk_size 1 := ⟨gw_of (List.mem_of_getElem? (i := 316) (by decide +kernel)) rfl, mb_Desk_size⟩
theorem ml_law_74 : ML "OrderDeskLaw" 74 y_Desk_look 2 := ⟨gw_of (List.mem_of_getElem? (i := 320) (by decide +kernel)) rfl, mb_Desk_look⟩
theorem ml_law_78 : ML "OrderDeskLaw" 78 y_Desk_lines 0 := ⟨gw_of (List.mem_of_getElem? (i := 324) (by decide +kernel)) rfl, mb_Desk_lines⟩
theorem ml_law_12 : ML "OrderDeskLaw" 12 y_Model_init 0 := ⟨gw_of (List.mem_of_getElem? (i := 330) (by decide +kernel)) rfl, mb_Model_init⟩
theorem ml_Model_1 : Cond.methodLink "OrderDeskModel" 1 objectInit ∈ gw := gw_of (List.mem_of_getElem? (i := 333) (by decide +kernel)) rfl
theorem ml_law_17 : ML "OrderDeskLaw" 17 y_Model_take 2 := ⟨gw_of (List.mem_of_getElem? (i := 355) (by decide +kernel)) rfl, mb_Model_take⟩
theorem ml_Model_26 : ML "OrderDeskModel" 26 y_Model_isItem 1 := ⟨gw_of (List.mem_of_getElem? (i := 359) (by decide +kernel)) rfl, mb_Model_isItem⟩
theorem ml_Model_38 : ML "OrderDeskModel" 38 y_Model_more 2 := ⟨gw_of (List.mem_of_getElem? (i := 362) (by decide +kernel)) rfl, mb_Model_more⟩
theorem ml_Model_31 : ML "OrderDeskModel" 31 y_Model_isPosition 1 := ⟨gw_of (List.mem_of_getElem? (i := 366) (by decide +kernel)) rfl, mb_Model_isPosition⟩
theorem ml_Model_34 : ML "OrderDeskModel" 34 y_Model_takesFrom 2 := ⟨gw_of (List.mem_of_getElem? (i := 370) (by decide +kernel)) rfl, mb_Model_takesFrom⟩
theorem ml_law_35 : ML "OrderDeskLaw" 35 y_Model_join 2 := ⟨gw_of (List.mem_of_getElem? (i := 374) (by decide +kernel)) rfl, mb_Model_join⟩
theorem ml_Model_41 : ML "OrderDeskModel" 41 y_Model_isQueued 1 := ⟨gw_of (List.mem_of_getElem? (i := 378) (by decide +kernel)) rfl, mb_Model_isQueued⟩
theorem ml_law_39 : ML "OrderDeskLaw" 39 y_Model_part 2 := ⟨gw_of (List.mem_of_getElem? (i := 382) (by decide +kernel)) rfl, mb_Model_part⟩
theorem ml_law_22 : ML "OrderDeskLaw" 22 y_Model_come 2 := ⟨gw_of (List.mem_of_getElem? (i := 386) (by decide +kernel)) rfl, mb_Model_come⟩
theorem ml_Model_48 : ML "OrderDeskModel" 48 y_Model_isPriority 1 := ⟨gw_of (List.mem_of_getElem? (i := 390) (by decide +kernel)) rfl, mb_Model_isPriority⟩
theorem ml_Model_51 : ML "OrderDeskModel" 51 y_Model_arrive 2 := ⟨gw_of (List.mem_of_getElem? (i := 393) (by decide +kernel)) rfl, mb_Model_arrive⟩
theorem ml_law_27 : ML "OrderDeskLaw" 27 y_Model_leave 1 := ⟨gw_of (List.mem_of_getElem? (i := 397) (by decide +kernel)) rfl, mb_Model_leave⟩
theorem ml_law_31 : ML "OrderDeskLaw" 31 y_Model_again 2 := ⟨gw_of (List.mem_of_getElem? (i := 401) (by decide +kernel)) rfl, mb_Model_again⟩
theorem ml_law_43 : ML "OrderDeskLaw" 43 y_Model_heads 1 := ⟨gw_of (List.mem_of_getElem? (i := 405) (by decide +kernel)) rfl, mb_Model_heads⟩
theorem ml_Model_61 : ML "OrderDeskModel" 61 y_Model_nearest 3 := ⟨gw_of (List.mem_of_getElem? (i := 409) (by decide +kernel)) rfl, mb_Model_nearest⟩
theorem ml_Model_55 : ML "OrderDeskModel" 55 y_Model_isOf 2 := ⟨gw_of (List.mem_of_getElem? (i := 413) (by decide +kernel)) rfl, mb_Model_isOf⟩
theorem ml_Model_58 : ML "OrderDeskModel" 58 y_Model_stands 2 := ⟨gw_of (List.mem_of_getElem? (i := 417) (by decide +kernel)) rfl, mb_Model_stands⟩
theorem ml_law_47 : ML "OrderDeskLaw" 47 y_Model_before 2 := ⟨gw_of (List.mem_of_getElem? (i := 421) (by decide +kernel)) rfl, mb_Model_before⟩
theorem ml_law_52 : ML "OrderDeskLaw" 52 y_Model_first 0 := ⟨gw_of (List.mem_of_getElem? (i := 425) (by decide +kernel)) rfl, mb_Model_first⟩
theorem ml_law_57 : ML "OrderDeskLaw" 57 y_Model_next 1 := ⟨gw_of (List.mem_of_getElem? (i := 429) (by decide +kernel)) rfl, mb_Model_next⟩
theorem ml_law_61 : ML "OrderDeskLaw" 61 y_Model_head 1 := ⟨gw_of (List.mem_of_getElem? (i := 433) (by decide +kernel)) rfl, mb_Model_head⟩
theorem ml_law_65 : ML "OrderDeskLaw" 65 y_Model_last 1 := ⟨gw_of (List.mem_of_getElem? (i := 437) (by decide +kernel)) rfl, mb_Model_last⟩
theorem ml_law_69 : ML "OrderDeskLaw" 69 y_Model_behind 2 := ⟨gw_of (List.mem_of_getElem? (i := 441) (by decide +kernel)) rfl, mb_Model_behind⟩
theorem ml_law_73 : ML "OrderDeskLaw" 73 y_Model_size 1 := ⟨gw_of (List.mem_of_getElem? (i := 445) (by decide +kernel)) rfl, mb_Model_size⟩
theorem ml_law_77 : ML "OrderDeskLaw" 77 y_Model_look 2 := ⟨gw_of (List.mem_of_getElem? (i := 449) (by decide +kernel)) rfl, mb_Model_look⟩
theorem ml_law_81 : ML "OrderDeskLaw" 81 y_Model_lines 0 := ⟨gw_of (List.mem_of_getElem? (i := 453) (by decide +kernel)) rfl, mb_Model_lines⟩
theorem ni_law : Cond.initialized "OrderDeskLaw" ∈ gw := gw_of (List.mem_of_getElem? (i := 0) (by decide +kernel)) rfl
theorem ni_Desk : Cond.initialized "OrderDesk" ∈ gw := gw_of (List.mem_of_getElem? (i := 1) (by decide +kernel)) rfl
theorem ni_Orders : Cond.initialized "OrderDesk$Orders" ∈ gw := gw_of (List.mem_of_getElem? (i := 2) (by decide +kernel)) rfl
theorem ni_Item : Cond.initialized "OrderDesk$Item" ∈ gw := gw_of (List.mem_of_getElem? (i := 3) (by decide +kernel)) rfl
theorem ni_Member : Cond.initialized "OrderDesk$Member" ∈ gw := gw_of (List.mem_of_getElem? (i := 4) (by decide +kernel)) rfl
theorem ni_Lines : Cond.initialized "OrderDesk$Lines" ∈ gw := gw_of (List.mem_of_getElem? (i := 5) (by decide +kernel)) rfl
theorem ni_Line : Cond.initialized "OrderDesk$Line" ∈ gw := gw_of (List.mem_of_getElem? (i := 6) (by decide +kernel)) rfl
theorem ni_Model : Cond.initialized "OrderDeskModel" ∈ gw := gw_of (List.mem_of_getElem? (i := 7) (by decide +kernel)) rfl
theorem cn_law_7 : Cond.classLink "OrderDeskLaw" 7 "OrderDesk" ∈ gw := gw_of (List.mem_of_getElem? (i := 8) (by decide +kernel)) rfl
theorem in_Desk : Cond.instantiable "OrderDesk" 1 ∈ gw := gw_of (List.mem_of_getElem? (i := 9) (by decide +kernel)) rfl
theorem cn_Desk_7 : Cond.classLink "OrderDesk" 7 "OrderDesk$Orders" ∈ gw := gw_of (List.mem_of_getElem? (i := 16) (by decide +kernel)) rfl
theorem in_Orders : Cond.instantiable "OrderDesk$Orders" 6 ∈ gw := gw_of (List.mem_of_getElem? (i := 17) (by decide +kernel)) rfl
theorem cn_Orders_7 : Cond.classLink "OrderDesk$Orders" 7 "OrderDesk$Item" ∈ gw := gw_of (List.mem_of_getElem? (i := 22) (by decide +kernel)) rfl
theorem ao_Item : Cond.arrayOver (.object "OrderDesk$Item") ∈ tables_1 := List.mem_of_getElem? (i := 23) (by decide +kernel)
theorem in_Item : Cond.instantiable "OrderDesk$Item" 8 ∈ gw := gw_of (List.mem_of_getElem? (i := 24) (by decide +kernel)) rfl
theorem cn_Item_9 : Cond.classLink "OrderDesk$Item" 9 "OrderDesk$Member" ∈ gw := gw_of (List.mem_of_getElem? (i := 29) (by decide +kernel)) rfl
theorem ao_Member : Cond.arrayOver (.object "OrderDesk$Member") ∈ tables_1 := List.mem_of_getElem? (i := 30) (by decide +kernel)
theorem in_Member : Cond.instantiable "OrderDesk$Member" 5 ∈ gw := gw_of (List.mem_of_getElem? (i := 31) (by decide +kernel)) rfl
theorem cn_Orders_21 : Cond.classLink "OrderDesk$Orders" 21 "OrderDesk$Lines" ∈ gw := gw_of (List.mem_of_getElem? (i := 99) (by decide +kernel)) rfl
theorem in_Lines : Cond.instantiable "OrderDesk$Lines" 3 ∈ gw := gw_of (List.mem_of_getElem? (i := 100) (by decide +kernel)) rfl
theorem cn_Lines_9 : Cond.classLink "OrderDesk$Lines" 9 "OrderDesk$Line" ∈ gw := gw_of (List.mem_of_getElem? (i := 105) (by decide +kernel)) rfl
theorem ao_Line : Cond.arrayOver (.object "OrderDesk$Line") ∈ tables_1 := List.mem_of_getElem? (i := 106) (by decide +kernel)
theorem in_Line : Cond.instantiable "OrderDesk$Line" 5 ∈ gw := gw_of (List.mem_of_getElem? (i := 107) (by decide +kernel)) rfl
theorem ct_Desk_18 : Cond.constant "OrderDesk" 18 100000 ∈ gw := gw_of (List.mem_of_getElem? (i := 190) (by decide +kernel)) rfl
theorem cn_law_10 : Cond.classLink "OrderDeskLaw" 10 "OrderDeskModel" ∈ gw := gw_of (List.mem_of_getElem? (i := 328) (by decide +kernel)) rfl
theorem in_Model : Cond.instantiable "OrderDeskModel" 6 ∈ gw := gw_of (List.mem_of_getElem? (i := 329) (by decide +kernel)) rfl
theorem ac_boolean : Cond.arrayClass .boolean ∈ gw := gw_of (List.mem_of_getElem? (i := 353) (by decide +kernel)) rfl
theorem ac_int : Cond.arrayClass .int ∈ gw := gw_of (List.mem_of_getElem? (i := 354) (by decide +kernel)) rfl
theorem ct_Model_30 : Cond.constant "OrderDeskModel" 30 99999 ∈ gw := gw_of (List.mem_of_getElem? (i := 369) (by decide +kernel)) rfl
theorem k_obj : Cond.code objectInit ⟨#[0xb1]⟩ 1 none ∈ gw := gw_of (List.mem_of_getElem? (i := 15) rfl) rfl
theorem mi_obj : Cond.instanceMethod objectInit ∈ gw := gw_of (List.mem_of_getElem? (i := 14) (by decide +kernel)) rfl
end
section
/-! THE JUDGEMENT J. The heap's picture: tt says of what kind a cell is (an object of class number c: .inl c; an array of kind t and n places: .inr (t, n)), mi its ints, mr its references (by place). All cells of the picture lie from N0 on. -/
abbrev jT : Type := Nat → Option (Nat ⊕ (Nat × Nat))
abbrev jI : Type := Nat → Nat → Int32
abbrev jR : Type := Nat → Nat → Option Nat
abbrev jD : Type := va_G × (Nat → ClassId)
def up2 {α : Type} (f : Nat → Nat → α) (a k : Nat) (x : α) : Nat → Nat → α := va_up f a (va_up (f a) k x)
theorem up2_ap {α : Type} (f : Nat → Nat → α) (a k : Nat) (x : α) (b j : Nat) : up2 f a k x b j = if b = a ∧ j = k then x else f b j := by
  by_cases h : b = a
  · subst h
    by_cases h2 : j = k <;> simp [up2, va_up, h2]
  · simp [up2, va_up, h]
theorem up2_row {α : Type} (f : Nat → Nat → α) (a k : Nat) (x : α) : up2 f a k x a = va_up (f a) k x := by simp [up2, va_up]
theorem up2_off {α : Type} (f : Nat → Nat → α) (a k : Nat) (x : α) {b : Nat} (h : b ≠ a) : up2 f a k x b = f b := by simp [up2, va_up, h]
def flds (c : Nat) (f : Nat → Int32) (g : Nat → Option Nat) : List Value := match c with
  | 0 => [.int (f 0), va_rf (g 1), .int (f 2), .int (f 3), .int (f 4), .int (f 5), va_rf (g 6), va_rf (g 7)]
  | 1 => [va_rf (g 0), .int (f 1), va_rf (g 2), va_rf (g 3), va_rf (g 4)]
  | 2 => [.int (f 0), .int (f 1), va_rf (g 2), va_rf (g 3), va_rf (g 4)]
  | 3 => [va_rf (g 0), va_rf (g 1), .int (f 2)]
  | 4 => [va_rf (g 0), va_rf (g 1), va_rf (g 2), va_rf (g 3), .int (f 4), .int (f 5)]
  | 5 => [va_rf (g 0)]
  | _ => [va_rf (g 0), va_rf (g 1), va_rf (g 2), va_rf (g 3), va_rf (g 4), .int (f 5)]
/-- of what kind the cell is that place k of a cell of kind q refers to -/
def kt (q : Nat ⊕ (Nat × Nat)) (k : Nat) : Option (Nat ⊕ (Nat × Nat)) := match q with
  | .inl 0 => match k with
    | 1 => some (.inr (1, 8))
    | 6 => some (.inl 0)
    | 7 => some (.inl 0)
    | _ => none
  | .inl 1 => match k with
    | 0 => some (.inl 0)
    | 2 => some (.inl 2)
    | 3 => some (.inl 1)
    | 4 => some (.inl 1)
    | _ => none
  | .inl 2 => match k with
    | 2 => some (.inl 1)
    | 3 => some (.inl 1)
    | 4 => some (.inl 2)
    | _ => none
  | .inl 3 => match k with
    | 0 => some (.inr (2, 256))
    | 1 => some (.inl 2)
    | _ => none
  | .inl 4 => match k with
    | 0 => some (.inr (0, 200))
    | 1 => some (.inl 3)
    | 2 => some (.inl 0)
    | 3 => some (.inl 0)
    | _ => none
  | .inl 5 => match k with
    | 0 => some (.inl 4)
    | _ => none
  | .inl 6 => match k with
    | 0 => some (.inr (4, 200))
    | 1 => some (.inr (3, 200))
    | 2 => some (.inr (3, 200))
    | 3 => some (.inr (3, 200))
    | 4 => some (.inr (3, 1600))
    | _ => none
  | .inr (0, _) => some (.inl 0)
  | .inr (1, _) => some (.inl 1)
  | .inr (2, _) => some (.inl 2)
  | _ => none
def arrE (t : Nat) (f : Nat → Int32) (g : Nat → Option Nat) : (Nat → Int32) ⊕ (Nat → Int64) ⊕ (Nat → UInt32) ⊕ (Nat → UInt64) ⊕ (Nat → Option Nat) := match t with
  | 3 => .inl f
  | 4 => .inl f
  | _ => .inr (.inr (.inr (.inr g)))
def cellE (D : jD) (q : Nat ⊕ (Nat × Nat)) (f : Nat → Int32) (g : Nat → Option Nat) : va_E := match q with
  | .inl c => .inr (c, flds c f g)
  | .inr (t, n) => .inl (D.2 t, n, arrE t f g)
def tysD (D : jD) : List (ClassId × FieldType) := [(D.2 0, .object "OrderDesk$Item"), (D.2 1, .object "OrderDesk$Member"), (D.2 2, .object "OrderDesk$Line"), (D.2 3, .int), (D.2 4, .boolean)]
def jWT (tt : jT) (mr : jR) : Prop := ∀ (a : Nat) (q : Nat ⊕ (Nat × Nat)) (k : Nat) (q' : Nat ⊕ (Nat × Nat)) (b : Nat), tt a = some q → kt q k = some q' → mr a k = some b → tt b = some q'
def hw (D : jD) (N0 : Nat) (tt : jT) (mi : jI) (mr : jR) (H : Heap) : Prop :=
  N0 ≤ H.size ∧ (∀ (a : Nat) (q : Nat ⊕ (Nat × Nat)), tt a = some q → N0 ≤ a ∧ va_at D.1 classes (a, cellE D q (mi a) (mr a)) H) ∧ jWT tt mr
theorem hw.at {D : jD} {N0 : Nat} {tt : jT} {mi : jI} {mr : jR} {H : Heap} (h : hw D N0 tt mi mr H) {a : Nat} {q : Nat ⊕ (Nat × Nat)} (ha : tt a = some q) : va_P D.1 classes [(a, cellE D q (mi a) (mr a))] H := by
  intro k x hx
  have hk : k < 1 := (List.getElem?_eq_some_iff.mp hx).1
  rw [show k = 0 by omega] at hx
  cases hx
  exact (h.2.1 a q ha).2
/-- one cell of the picture changes -/
theorem hw.put {D : jD} {N0 : Nat} {tt : jT} {mi mi' : jI} {mr mr' : jR} {H H1 : Heap} (h : hw D N0 tt mi mr H) {a : Nat} {q : Nat ⊕ (Nat × Nat)} (ha : tt a = some q) (hz : H1.size = H.size) (oq : ∀ x : Nat, x ≠ a → H1[x]? = H[x]?) (hi : ∀ b, b ≠ a → mi' b = mi b) (hr : ∀ b, b ≠ a → mr' b = mr b)
    (he : va_at D.1 classes (a, cellE D q (mi' a) (mr' a)) H1) (hT : ∀ (k : Nat) (q' : Nat ⊕ (Nat × Nat)) (b : Nat), kt q k = some q' → mr' a k = some b → tt b = some q') : hw D N0 tt mi' mr' H1 := by
  refine ⟨by rw [hz]; exact h.1, fun b κ hb => ?_, fun b κ k κ' x hb hk hx => ?_⟩
  · by_cases e : b = a
    · subst e
      cases ha.symm.trans hb
      exact ⟨(h.2.1 b _ hb).1, he⟩
    · refine ⟨(h.2.1 b κ hb).1, ?_⟩
      rw [hi b e, hr b e]
      exact (h.2.1 b κ hb).2.kept (oq b e)
  · by_cases e : b = a
    · subst e
      cases ha.symm.trans hb
      exact hT k κ' x hk hx
    · rw [hr b e] at hx
      exact h.2.2 b κ k κ' x hb hk hx
/-- a new cell -/
theorem hw.new {D : jD} {N0 : Nat} {tt : jT} {mi : jI} {mr : jR} {H H1 : Heap} (h : hw D N0 tt mi mr H) {q : Nat ⊕ (Nat × Nat)} (hz : H.size ≤ H1.size) (oq : ∀ x : Nat, x < H.size → H1[x]? = H[x]?) (he : va_at D.1 classes (H.size, cellE D q (fun _ => 0) (fun _ => none)) H1) :
    hw D N0 (va_up tt H.size (some q)) (va_up mi H.size (fun _ => 0)) (va_up mr H.size (fun _ => none)) H1 := by
  have lt : ∀ (a : Nat) (κ : Nat ⊕ (Nat × Nat)), tt a = some κ → a < H.size := fun a κ ha => (h.2.1 a κ ha).2.lt
  refine ⟨Nat.le_trans h.1 hz, fun b κ hb => ?_, fun b κ k κ' x hb hk hx => ?_⟩
  · by_cases e : b = H.size
    · subst e
      rw [va_up_self] at hb
      cases hb
      rw [va_up_self, va_up_self]
      exact ⟨h.1, he⟩
    · rw [va_up_ne _ _ e] at hb
      rw [va_up_ne _ _ e, va_up_ne _ _ e]
      exact ⟨(h.2.1 b κ hb).1, (h.2.1 b κ hb).2.kept (oq b (lt b κ hb))⟩
  · by_cases e : b = H.size
    · subst e
      rw [va_up_self] at hx
      cases hx
    · rw [va_up_ne _ _ e] at hb hx
      have h1 := h.2.2 b κ k κ' x hb hk hx
      rw [va_up_ne _ _ (Nat.ne_of_lt (lt x κ' h1))]
      exact h1
theorem hw.fresh {D : jD} {N0 : Nat} {tt : jT} {mi : jI} {mr : jR} {H : Heap} (h : hw D N0 tt mi mr H) : tt H.size = none := by
  cases e : tt H.size with
  | none => rfl
  | some q => exact absurd (h.2.1 _ q e).2.lt (Nat.lt_irrefl _)
-- words of nest mates, array classes
def jnest : Cond → Bool
  | .fieldLinkNest .. => true
  | .methodLinkNest .. => true
  | _ => false
def jN (U : State) : Prop := ∀ w ∈ tables_1, jnest w = true → va_Nw w U
theorem jN.warm {s U : State} (hW : s.WarmedH U.vm) (h : jN s) : jN U := by
  intro w hw hn
  have h1 := h w hw hn
  cases w <;> first | exact va_Nw.warmF hW h1 | exact va_Nw.warmM hW h1 | cases hn
theorem jnest_on {w : Cond} (h : jnest w = true) : w.onTables = true := by
  cases w <;> first | rfl | cases h
theorem jN.same {s U : State} (hv : s.vm = U.vm) (h : jN s) : jN U := fun w hw hn => va_Nw.same (jnest_on hn) hv (h w hw hn)
def jK (D : jD) (U : State) : Prop := va_K D.1 classes (tysD D) U ∧ jN U ∧ va_AO "OrderDesk$Item" U ∧ va_AO "OrderDesk$Member" U ∧ va_AO "OrderDesk$Line" U
theorem jK.warm {D : jD} {s U : State} (hW : s.WarmedH U.vm) (h : jK D s) : jK D U := ⟨va_K.moved hW.alike h.1, h.2.1.warm hW, h.2.2.1.moved hW.alike, h.2.2.2.1.moved hW.alike, h.2.2.2.2.moved hW.alike⟩
theorem jK.same {D : jD} {s U : State} (hv : s.vm = U.vm) (h : jK D s) : jK D U := by
  have ha : s.vm.Alike U.vm := by rw [hv]; exact Vm.Alike.refl _
  exact ⟨va_K.moved ha h.1, h.2.1.same hv, h.2.2.1.moved ha, h.2.2.2.1.moved ha, h.2.2.2.2.moved ha⟩
-- locals by a list
def jl (lv : List (Option Value)) : List (Nat × Value) := (List.range lv.length).filterMap (fun k => (lv.getD k none).map (fun v => (k, v)))
theorem mem_jl {lv : List (Option Value)} {k : Nat} {v : Value} : (k, v) ∈ jl lv ↔ lv[k]? = some (some v) := by
  unfold jl
  rw [List.mem_filterMap]
  constructor
  · rintro ⟨j, hj, h⟩
    rw [List.mem_range] at hj
    rw [List.getD_eq_getElem?_getD, List.getElem?_eq_getElem hj] at h
    cases hv : lv[j] with
    | none => rw [hv] at h; cases h
    | some w =>
      rw [hv] at h
      cases h
      rw [List.getElem?_eq_getElem hj, hv]
  · intro h
    refine ⟨k, List.mem_range.mpr (List.getElem?_eq_some_iff.mp h).1, ?_⟩
    rw [List.getD_eq_getElem?_getD, h]
    rfl
def jL (ls : Array Slot) (lv : List (Option Value)) : Prop := lv_has ls lv.length (jl lv) ∧ ∀ v, some v ∈ lv → v.category = 1
theorem jL.get {ls : Array Slot} {lv : List (Option Value)} (h : jL ls lv) {k : Nat} {v : Value} (hk : lv[k]? = some (some v)) : ls[k]? = some (.val v) := h.1.2.2 (k, v) (mem_jl.mpr hk)
theorem jL.put {ls ls' : Array Slot} {lv : List (Option Value)} {i : Nat} {v : Value} (h : jL ls lv) (hv : v.category = 1) (h' : lv_has ls' lv.length ((i, v) :: (jl lv).filter (fun q => !(q.1 == i) && !(q.1 + 1 == i && q.2.category == 2)))) : jL ls' (lv.set i (some v)) := by
  refine ⟨⟨by rw [h'.1, List.length_set], h'.2.1, fun q hq => ?_⟩, fun w hw => ?_⟩
  · obtain ⟨k, w⟩ := q
    rw [mem_jl] at hq
    by_cases hki : k = i
    · subst hki
      have hlt : k < lv.length := by
        have := (List.getElem?_eq_some_iff.mp hq).1
        rwa [List.length_set] at this
      rw [List.getElem?_set_self hlt] at hq
      cases hq
      exact h'.2.2 (k, v) List.mem_cons_self
    · rw [List.getElem?_set_ne (Ne.symm hki)] at hq
      refine h'.2.2 (k, w) (List.mem_cons_of_mem _ (List.mem_filter.mpr ⟨mem_jl.mpr hq, ?_⟩))
      have hc := h.2 w (List.mem_of_getElem? hq)
      simp [hki, hc]
  · rcases List.mem_or_eq_of_mem_set hw with h1 | h1
    · exact h.2 w h1
    · cases h1
      exact hv
theorem cat_rf (r : Option Nat) : (va_rf r).category = 1 := by cases r <;> rfl
theorem lg_sl_one {vs : List Value} (h : ∀ v ∈ vs, v.category = 1) : lg_sl vs = vs.map Slot.val := by
  induction vs with
  | nil => rfl
  | cons v vs ih =>
    have h1 := h v List.mem_cons_self
    have h2 := ih (fun w hw => h w (List.mem_cons_of_mem _ hw))
    unfold lg_sl at h2 ⊢
    rw [List.flatMap_cons, h2]
    simp [h1]
theorem jL_entry (vs : List Value) {n : Nat} (hc : ∀ v ∈ vs, v.category = 1) (hn : vs.length ≤ n) : jL ((lg_sl vs ++ List.replicate (n - (lg_sl vs).length) Slot.unset).toArray) (vs.map some ++ List.replicate (n - vs.length) none) := by
  have e := lg_sl_one hc
  have hl : (lg_sl vs).length = vs.length := by rw [e, List.length_map]
  have h0 := lv_entry vs (n := n) (by rw [hl]; exact hn)
  have hlen : (vs.map some ++ List.replicate (n - vs.length) (none : Option Value)).length = n := by simp; omega
  refine ⟨⟨by rw [hlen]; exact h0.1, h0.2.1, fun q hq => ?_⟩, fun v hv => ?_⟩
  · obtain ⟨k, v⟩ := q
    rw [mem_jl] at hq
    rw [e, List.getElem?_toArray]
    by_cases hk : k < vs.length
    · rw [List.getElem?_append_left (by rw [List.length_map]; exact hk), List.getElem?_map] at hq ⊢
      cases hv : vs[k]? with
      | none => rw [hv] at hq; cases hq
      | some w => rw [hv] at hq; cases hq; rfl
    · rw [List.getElem?_append_right (by rw [List.length_map]; omega), List.getElem?_replicate] at hq
      split at hq <;> cases hq
  · rcases List.mem_append.mp hv with h1 | h1
    · obtain ⟨w, hw, e1⟩ := List.mem_map.mp h1
      cases e1
      exact hc _ hw
    · have := List.eq_of_mem_replicate h1
      cases this
-- the judgement
abbrev jX := Program × Launch × Env × Room × State × MethodId × Array Value × List Frame × Method × Code × (State → Prop) × jD × Nat
def jA (N0 : Nat) : Nat → Prop := fun q => N0 ≤ q
def J (X : jX) (tt : jT) (mi : jI) (mr : jR) (ce sl pc : Nat) (lv : List (Option Value)) (st : List Value) : Prop := match X with
  | (p, l, e, R, s, m, args, below, meth, c, Q, D, N0) => ∀ (H : Heap) (locs : List Loc) (ls : Array Slot), hw D N0 tt mi mr H → va_S (jA N0) s.heap H locs → jL ls lv → W p l e R s m args below meth c H locs ce sl Q (F0 m pc ls st)
def jok (X : jX) (cc : ByteArray) (own : String) (n lev mc ms : Nat) : Prop := match X with
  | (p, _, _, R, s, m, args, _, meth, c, _, D, N0) => p.tables.exec = Jvm.exec ∧ c.code = cc ∧ s.vm.findClass own = some m.cls ∧ (∀ w ∈ gw, w.before args s = true) ∧ c.maxLocals = n ∧ meth.locks = false ∧ jK D s ∧ lev ≤ R.frames ∧ 30 * lev ≤ R.locals ∧ R.cells = mc ∧ R.slots = ms ∧ N0 ≤ s.heap.size
abbrev jPost : Type := Option Value → jT → jI → jR → Prop
def jQ (D : jD) (N0 : Nat) (Post : jPost) : Array Value → State → Outcome → State → Prop := fun _ st oc t =>
  (∃ (v : Option Value) (tt : jT) (mi : jI) (mr : jR), oc = .returned v ∧ Post v tt mi mr ∧ hw D N0 tt mi mr t.heap) ∧ va_F (jA N0) st t
def jend (X : jX) (ret : Option FieldType) (mc ms : Nat) (Post : jPost) : Prop := match X with
  | (_, _, _, _, s, _, args, below, meth, _, Q, D, N0) => meth.sig.returnType = ret ∧ Q = MQ below (jQ D N0 Post) args s mc ms (jA N0)
def jini (X : jX) : Prop := match X with
  | (_, _, _, _, _, _, _, _, meth, _, _, _, _) => meth.name = "<init>"
def jLa (X : jX) : Launch := X.2.1
def jDa (X : jX) : jD := X.2.2.2.2.2.2.2.2.2.2.2.1
def jN0 (X : jX) : Nat := X.2.2.2.2.2.2.2.2.2.2.2.2
/-- A CONTRACT: method y (bytes cc, n locals), at depth lev, makes mc cells of ms places; from the picture (tt, mi, mr) with the arguments av it returns v with Post v of the picture behind it -/
def Ct (l : Launch) (D : jD) (N0 lev mc ms : Nat) (y : MethodName) (cc : ByteArray) (n : Nat) (ret : Option FieldType) (av : List Value) (tt : jT) (mi : jI) (mr : jR) (Post : jPost) : Prop :=
  Met l y (.code y cc n ret :: gw) ({ frames := lev, cells := mc, slots := ms, locals := 30 * lev }) (va_Pc av (fun U => hw D N0 tt mi mr U.heap ∧ jK D U)) (jQ D N0 Post) mc ms (jA N0)
theorem Ct.of {l : Launch} {D : jD} {N0 lev mc ms : Nat} {y : MethodName} {cc : ByteArray} {n : Nat} {ret : Option FieldType} {av : List Value} {tt : jT} {mi : jI} {mr : jR} {Post : jPost} (own : String) (hy : plainName y.cls = true) (hown : y.cls = own) (hav : ∀ v ∈ av, v.category = 1) (hn : av.length ≤ n)
    (body : ∀ X : jX, jLa X = l → jDa X = D → jN0 X = N0 → jok X cc own n lev mc ms → jend X ret mc ms Post → (y.name = "<init>" → jini X) → jWT tt mr → J X tt mi mr 0 0 0 (av.map some ++ List.replicate (n - av.length) none) []) : Ct l D N0 lev mc ms y cc n ret av tt mi mr Post := by
  refine Met.ofW (cc := cc) (maxL := n) (ret := ret) hy rfl ?_
  intro p e s m args below meth c s₁ B hml hv
  obtain ⟨rfl, hH, hK⟩ := hv
  have hts := atoms_spec (ws := .code y cc n ret :: gw) B.pre
  have hfc : s.vm.findClass own = some m.cls := by rw [← hown]; exact findClass_of_methodNamed B.named
  have h := body (p, l, e, { frames := lev, cells := mc, slots := ms, locals := 30 * lev }, s, m, av.toArray, below, meth, c, MQ below (jQ D N0 Post) av.toArray s mc ms (jA N0), D, N0) rfl rfl rfl
    ⟨B.exec, B.bytes, hfc, fun w hw => hts w (List.mem_cons_of_mem _ hw), hml, B.notSynchronized, hK, Nat.le_refl _, Nat.le_refl _, rfl, rfl, hH.1⟩ ⟨B.returns, rfl⟩
    (fun hi => ((name_of_methodNamed B.named B.method).1.trans hi : meth.name = "<init>")) hH.2.2
  rw [lg_entry_eq]
  exact h s.heap [] _ hH va_S.rf (jL_entry av hav hn)
section JR
variable {X : jX} {cc : ByteArray} {own : String} {n lev mc ms : Nat} {tt : jT} {mi : jI} {mr : jR} {ce sl pc : Nat} {lv : List (Option Value)} {st : List Value}

theorem j_iconst (C : jok X cc own n lev mc ms) {k : Int} {v : Int32} (hd : decode cc pc = .ok (.iconst k, 1)) (hv : Int32.ofInt k = v) (kk : J X tt mi mr ce sl (pc + 1) lv (.int v :: st)) : J X tt mi mr ce sl pc lv st := by
  obtain ⟨p, l, e, R, s, m, args, below, meth, c, Q, D, N0⟩ := X
  obtain ⟨hx, hb, hown, hts, hml, hlk, hK, hfr, hlo, hce, hsl, hN0⟩ := C
  intro H locs ls hH hS hl
  exact lv_iconst hx hb hd hv (kk H locs ls hH hS hl)
theorem j_bipush (C : jok X cc own n lev mc ms) {k : Int} {v : Int32} (hd : decode cc pc = .ok (.bipush k, 2)) (hv : (Int8.ofInt k).toInt32 = v) (kk : J X tt mi mr ce sl (pc + 2) lv (.int v :: st)) : J X tt mi mr ce sl pc lv st := by
  obtain ⟨p, l, e, R, s, m, args, below, meth, c, Q, D, N0⟩ := X
  obtain ⟨hx, hb, hown, hts, hml, hlk, hK, hfr, hlo, hce, hsl, hN0⟩ := C
  intro H locs ls hH hS hl
  exact lv_bipush hx hb hd hv (kk H locs ls hH hS hl)
theorem j_sipush (C : jok X cc own n lev mc ms) {k : Int} {v : Int32} (hd : decode cc pc = .ok (.sipush k, 3)) (hv : (Int16.ofInt k).toInt32 = v) (kk : J X tt mi mr ce sl (pc + 3) lv (.int v :: st)) : J X tt mi mr ce sl pc lv st := by
  obtain ⟨p, l, e, R, s, m, args, below, meth, c, Q, D, N0⟩ := X
  obtain ⟨hx, hb, hown, hts, hml, hlk, hK, hfr, hlo, hce, hsl, hN0⟩ := C
  intro H locs ls hH hS hl
  exact lv_sipush hx hb hd hv (kk H locs ls hH hS hl)
theorem j_ldc (C : jok X cc own n lev mc ms) {ix : Nat} {v : Int32} (hw : Cond.constant own ix v ∈ gw) (hd : decode cc pc = .ok (.ldc ix, 2)) (kk : J X tt mi mr ce sl (pc + 2) lv (.int v :: st)) : J X tt mi mr ce sl pc lv st := by
  obtain ⟨p, l, e, R, s, m, args, below, meth, c, Q, D, N0⟩ := X
  obtain ⟨hx, hb, hown, hts, hml, hlk, hK, hfr, hlo, hce, hsl, hN0⟩ := C
  intro H locs ls hH hS hl
  exact lv_ldc hx hb hown (hts _ hw) hd (kk H locs ls hH hS hl)
theorem j_null (C : jok X cc own n lev mc ms) (hd : decode cc pc = .ok (.aconst_null, 1)) (kk : J X tt mi mr ce sl (pc + 1) lv (va_rf none :: st)) : J X tt mi mr ce sl pc lv st := by
  obtain ⟨p, l, e, R, s, m, args, below, meth, c, Q, D, N0⟩ := X
  obtain ⟨hx, hb, hown, hts, hml, hlk, hK, hfr, hlo, hce, hsl, hN0⟩ := C
  intro H locs ls hH hS hl
  exact lv_null hx hb hd (kk H locs ls hH hS hl)
theorem j_iload_n (C : jok X cc own n lev mc ms) {k : Fin 4} {x : Int32} (hd : decode cc pc = .ok (.iload_n k, 1)) (h : lv[(k : Nat)]? = some (some (.int x))) (kk : J X tt mi mr ce sl (pc + 1) lv (.int x :: st)) : J X tt mi mr ce sl pc lv st := by
  obtain ⟨p, l, e, R, s, m, args, below, meth, c, Q, D, N0⟩ := X
  obtain ⟨hx, hb, hown, hts, hml, hlk, hK, hfr, hlo, hce, hsl, hN0⟩ := C
  intro H locs ls hH hS hl
  exact lv_iload_n hx hb hd rfl (hl.get h) (kk H locs ls hH hS hl)
theorem j_iload (C : jok X cc own n lev mc ms) {k : Nat} {x : Int32} (hd : decode cc pc = .ok (.iload k, 2)) (h : lv[k]? = some (some (.int x))) (kk : J X tt mi mr ce sl (pc + 2) lv (.int x :: st)) : J X tt mi mr ce sl pc lv st := by
  obtain ⟨p, l, e, R, s, m, args, below, meth, c, Q, D, N0⟩ := X
  obtain ⟨hx, hb, hown, hts, hml, hlk, hK, hfr, hlo, hce, hsl, hN0⟩ := C
  intro H locs ls hH hS hl
  exact lv_iload hx hb hd (hl.get h) (kk H locs ls hH hS hl)
theorem j_aload_n (C : jok X cc own n lev mc ms) {k : Fin 4} {r : Option Nat} (hd : decode cc pc = .ok (.aload_n k, 1)) (h : lv[(k : Nat)]? = some (some (va_rf r))) (kk : J X tt mi mr ce sl (pc + 1) lv (va_rf r :: st)) : J X tt mi mr ce sl pc lv st := by
  obtain ⟨p, l, e, R, s, m, args, below, meth, c, Q, D, N0⟩ := X
  obtain ⟨hx, hb, hown, hts, hml, hlk, hK, hfr, hlo, hce, hsl, hN0⟩ := C
  intro H locs ls hH hS hl
  cases r with
  | none => exact lv_aload_nN hx hb hd rfl (hl.get h) (kk H locs ls hH hS hl)
  | some a => exact lv_aload_n hx hb hd rfl (hl.get h) (kk H locs ls hH hS hl)
theorem j_aload (C : jok X cc own n lev mc ms) {k : Nat} {r : Option Nat} (hd : decode cc pc = .ok (.aload k, 2)) (h : lv[k]? = some (some (va_rf r))) (kk : J X tt mi mr ce sl (pc + 2) lv (va_rf r :: st)) : J X tt mi mr ce sl pc lv st := by
  obtain ⟨p, l, e, R, s, m, args, below, meth, c, Q, D, N0⟩ := X
  obtain ⟨hx, hb, hown, hts, hml, hlk, hK, hfr, hlo, hce, hsl, hN0⟩ := C
  intro H locs ls hH hS hl
  cases r with
  | none => exact lv_aloadN hx hb hd (hl.get h) (kk H locs ls hH hS hl)
  | some a => exact lv_aload hx hb hd (hl.get h) (kk H locs ls hH hS hl)
theorem j_istore_n (C : jok X cc own n lev mc ms) {k : Fin 4} {x : Int32} (hd : decode cc pc = .ok (.istore_n k, 1)) (h : (k : Nat) < lv.length) (kk : J X tt mi mr ce sl (pc + 1) (lv.set (k : Nat) (some (.int x))) st) : J X tt mi mr ce sl pc lv (.int x :: st) := by
  obtain ⟨p, l, e, R, s, m, args, below, meth, c, Q, D, N0⟩ := X
  obtain ⟨hx, hb, hown, hts, hml, hlk, hK, hfr, hlo, hce, hsl, hN0⟩ := C
  intro H locs ls hH hS hl
  exact lv_istore_n hx hb hd rfl hl.1 h rfl (fun ls' hl' => kk H locs ls' hH hS (hl.put rfl hl'))
theorem j_istore (C : jok X cc own n lev mc ms) {k : Nat} {x : Int32} (hd : decode cc pc = .ok (.istore k, 2)) (h : k < lv.length) (kk : J X tt mi mr ce sl (pc + 2) (lv.set k (some (.int x))) st) : J X tt mi mr ce sl pc lv (.int x :: st) := by
  obtain ⟨p, l, e, R, s, m, args, below, meth, c, Q, D, N0⟩ := X
  obtain ⟨hx, hb, hown, hts, hml, hlk, hK, hfr, hlo, hce, hsl, hN0⟩ := C
  intro H locs ls hH hS hl
  exact lv_istore hx hb hd hl.1 h rfl (fun ls' hl' => kk H locs ls' hH hS (hl.put rfl hl'))
theorem j_astore_n (C : jok X cc own n lev mc ms) {k : Fin 4} {r : Option Nat} (hd : decode cc pc = .ok (.astore_n k, 1)) (h : (k : Nat) < lv.length) (kk : J X tt mi mr ce sl (pc + 1) (lv.set (k : Nat) (some (va_rf r))) st) : J X tt mi mr ce sl pc lv (va_rf r :: st) := by
  obtain ⟨p, l, e, R, s, m, args, below, meth, c, Q, D, N0⟩ := X
  obtain ⟨hx, hb, hown, hts, hml, hlk, hK, hfr, hlo, hce, hsl, hN0⟩ := C
  intro H locs ls hH hS hl
  cases r with
  | none => exact lv_astore_nN hx hb hd rfl hl.1 h rfl (fun ls' hl' => kk H locs ls' hH hS (hl.put rfl hl'))
  | some a => exact lv_astore_n hx hb hd rfl hl.1 h rfl (fun ls' hl' => kk H locs ls' hH hS (hl.put rfl hl'))
theorem j_astore (C : jok X cc own n lev mc ms) {k : Nat} {r : Option Nat} (hd : decode cc pc = .ok (.astore k, 2)) (h : k < lv.length) (kk : J X tt mi mr ce sl (pc + 2) (lv.set k (some (va_rf r))) st) : J X tt mi mr ce sl pc lv (va_rf r :: st) := by
  obtain ⟨p, l, e, R, s, m, args, below, meth, c, Q, D, N0⟩ := X
  obtain ⟨hx, hb, hown, hts, hml, hlk, hK, hfr, hlo, hce, hsl, hN0⟩ := C
  intro H locs ls hH hS hl
  cases r with
  | none => exact lv_astoreN hx hb hd hl.1 h rfl (fun ls' hl' => kk H locs ls' hH hS (hl.put rfl hl'))
  | some a => exact lv_astore hx hb hd hl.1 h rfl (fun ls' hl' => kk H locs ls' hH hS (hl.put rfl hl'))
theorem j_iinc (C : jok X cc own n lev mc ms) {k : Nat} {d : Int} {x v : Int32} (hd : decode cc pc = .ok (.iinc k d, 3)) (h : lv[k]? = some (some (.int x))) (hv : x + Int32.ofInt d = v) (kk : J X tt mi mr ce sl (pc + 3) (lv.set k (some (.int v))) st) : J X tt mi mr ce sl pc lv st := by
  obtain ⟨p, l, e, R, s, m, args, below, meth, c, Q, D, N0⟩ := X
  obtain ⟨hx, hb, hown, hts, hml, hlk, hK, hfr, hlo, hce, hsl, hN0⟩ := C
  intro H locs ls hH hS hl
  obtain ⟨i, hi⟩ := List.getElem?_of_mem (mem_jl.mpr h)
  exact lv_iinc hx hb hd hl.1 hi hv (List.getElem?_eq_some_iff.mp h).1 rfl (fun ls' hl' => kk H locs ls' hH hS (hl.put rfl hl'))
theorem j_iadd (C : jok X cc own n lev mc ms) {x y : Int32} (hd : decode cc pc = .ok (.iadd, 1)) (kk : J X tt mi mr ce sl (pc + 1) lv (.int (x + y) :: st)) : J X tt mi mr ce sl pc lv (.int y :: .int x :: st) := by
  obtain ⟨p, l, e, R, s, m, args, below, meth, c, Q, D, N0⟩ := X
  obtain ⟨hx, hb, hown, hts, hml, hlk, hK, hfr, hlo, hce, hsl, hN0⟩ := C
  intro H locs ls hH hS hl
  exact lv_iadd hx hb hd (kk H locs ls hH hS hl)
theorem j_isub (C : jok X cc own n lev mc ms) {x y : Int32} (hd : decode cc pc = .ok (.isub, 1)) (kk : J X tt mi mr ce sl (pc + 1) lv (.int (x - y) :: st)) : J X tt mi mr ce sl pc lv (.int y :: .int x :: st) := by
  obtain ⟨p, l, e, R, s, m, args, below, meth, c, Q, D, N0⟩ := X
  obtain ⟨hx, hb, hown, hts, hml, hlk, hK, hfr, hlo, hce, hsl, hN0⟩ := C
  intro H locs ls hH hS hl
  exact lv_isub hx hb hd (kk H locs ls hH hS hl)
theorem j_imul (C : jok X cc own n lev mc ms) {x y : Int32} (hd : decode cc pc = .ok (.imul, 1)) (kk : J X tt mi mr ce sl (pc + 1) lv (.int (x * y) :: st)) : J X tt mi mr ce sl pc lv (.int y :: .int x :: st) := by
  obtain ⟨p, l, e, R, s, m, args, below, meth, c, Q, D, N0⟩ := X
  obtain ⟨hx, hb, hown, hts, hml, hlk, hK, hfr, hlo, hce, hsl, hN0⟩ := C
  intro H locs ls hH hS hl
  exact lv_imul hx hb hd (kk H locs ls hH hS hl)
theorem j_iand (C : jok X cc own n lev mc ms) {x y : Int32} (hd : decode cc pc = .ok (.iand, 1)) (kk : J X tt mi mr ce sl (pc + 1) lv (.int (x &&& y) :: st)) : J X tt mi mr ce sl pc lv (.int y :: .int x :: st) := by
  obtain ⟨p, l, e, R, s, m, args, below, meth, c, Q, D, N0⟩ := X
  obtain ⟨hx, hb, hown, hts, hml, hlk, hK, hfr, hlo, hce, hsl, hN0⟩ := C
  intro H locs ls hH hS hl
  exact lv_iand hx hb hd (kk H locs ls hH hS hl)
theorem j_ixor (C : jok X cc own n lev mc ms) {x y : Int32} (hd : decode cc pc = .ok (.ixor, 1)) (kk : J X tt mi mr ce sl (pc + 1) lv (.int (x ^^^ y) :: st)) : J X tt mi mr ce sl pc lv (.int y :: .int x :: st) := by
  obtain ⟨p, l, e, R, s, m, args, below, meth, c, Q, D, N0⟩ := X
  obtain ⟨hx, hb, hown, hts, hml, hlk, hK, hfr, hlo, hce, hsl, hN0⟩ := C
  intro H locs ls hH hS hl
  exact lv_ixor hx hb hd (kk H locs ls hH hS hl)
theorem j_ishr (C : jok X cc own n lev mc ms) {x y : Int32} (hd : decode cc pc = .ok (.ishr, 1)) (kk : J X tt mi mr ce sl (pc + 1) lv (.int (x >>> (y &&& 31)) :: st)) : J X tt mi mr ce sl pc lv (.int y :: .int x :: st) := by
  obtain ⟨p, l, e, R, s, m, args, below, meth, c, Q, D, N0⟩ := X
  obtain ⟨hx, hb, hown, hts, hml, hlk, hK, hfr, hlo, hce, hsl, hN0⟩ := C
  intro H locs ls hH hS hl
  exact lv_ishr hx hb hd (kk H locs ls hH hS hl)
theorem j_dup (C : jok X cc own n lev mc ms) {v : Value} (hd : decode cc pc = .ok (.dup, 1)) (hv : v.category = 1) (kk : J X tt mi mr ce sl (pc + 1) lv (v :: v :: st)) : J X tt mi mr ce sl pc lv (v :: st) := by
  obtain ⟨p, l, e, R, s, m, args, below, meth, c, Q, D, N0⟩ := X
  obtain ⟨hx, hb, hown, hts, hml, hlk, hK, hfr, hlo, hce, hsl, hN0⟩ := C
  intro H locs ls hH hS hl
  exact lv_dup hx hb hd hv (kk H locs ls hH hS hl)
theorem j_if_eq (C : jok X cc own n lev mc ms) {x : Int32} {off : Int} {tgt : Nat} (hd : decode cc pc = .ok (.ifCond .eq off, 3)) (ht : (pc : Int) + off = (tgt : Int)) (kt : x = 0 → J X tt mi mr ce sl tgt lv st) (kf : ¬ x = 0 → J X tt mi mr ce sl (pc + 3) lv st) : J X tt mi mr ce sl pc lv (.int x :: st) := by
  obtain ⟨p, l, e, R, s, m, args, below, meth, c, Q, D, N0⟩ := X
  obtain ⟨hx, hb, hown, hts, hml, hlk, hK, hfr, hlo, hce, hsl, hN0⟩ := C
  intro H locs ls hH hS hl
  exact lv_if_eq hx hb hd ht (fun q => kt q H locs ls hH hS hl) (fun q => kf q H locs ls hH hS hl)
theorem j_icmp_eq (C : jok X cc own n lev mc ms) {x y : Int32} {off : Int} {tgt : Nat} (hd : decode cc pc = .ok (.if_icmp .eq off, 3)) (ht : (pc : Int) + off = (tgt : Int)) (kt : x = y → J X tt mi mr ce sl tgt lv st) (kf : ¬ x = y → J X tt mi mr ce sl (pc + 3) lv st) : J X tt mi mr ce sl pc lv (.int y :: .int x :: st) := by
  obtain ⟨p, l, e, R, s, m, args, below, meth, c, Q, D, N0⟩ := X
  obtain ⟨hx, hb, hown, hts, hml, hlk, hK, hfr, hlo, hce, hsl, hN0⟩ := C
  intro H locs ls hH hS hl
  exact lv_icmp_eq hx hb hd ht (fun q => kt q H locs ls hH hS hl) (fun q => kf q H locs ls hH hS hl)
theorem j_if_ne (C : jok X cc own n lev mc ms) {x : Int32} {off : Int} {tgt : Nat} (hd : decode cc pc = .ok (.ifCond .ne off, 3)) (ht : (pc : Int) + off = (tgt : Int)) (kt : ¬ x = 0 → J X tt mi mr ce sl tgt lv st) (kf : x = 0 → J X tt mi mr ce sl (pc + 3) lv st) : J X tt mi mr ce sl pc lv (.int x :: st) := by
  obtain ⟨p, l, e, R, s, m, args, below, meth, c, Q, D, N0⟩ := X
  obtain ⟨hx, hb, hown, hts, hml, hlk, hK, hfr, hlo, hce, hsl, hN0⟩ := C
  intro H locs ls hH hS hl
  exact lv_if_ne hx hb hd ht (fun q => kt q H locs ls hH hS hl) (fun q => kf q H locs ls hH hS hl)
theorem j_icmp_ne (C : jok X cc own n lev mc ms) {x y : Int32} {off : Int} {tgt : Nat} (hd : decode cc pc = .ok (.if_icmp .ne off, 3)) (ht : (pc : Int) + off = (tgt : Int)) (kt : ¬ x = y → J X tt mi mr ce sl tgt lv st) (kf : x = y → J X tt mi mr ce sl (pc + 3) lv st) : J X tt mi mr ce sl pc lv (.int y :: .int x :: st) := by
  obtain ⟨p, l, e, R, s, m, args, below, meth, c, Q, D, N0⟩ := X
  obtain ⟨hx, hb, hown, hts, hml, hlk, hK, hfr, hlo, hce, hsl, hN0⟩ := C
  intro H locs ls hH hS hl
  exact lv_icmp_ne hx hb hd ht (fun q => kt q H locs ls hH hS hl) (fun q => kf q H locs ls hH hS hl)
theorem j_if_lt (C : jok X cc own n lev mc ms) {x : Int32} {off : Int} {tgt : Nat} (hd : decode cc pc = .ok (.ifCond .lt off, 3)) (ht : (pc : Int) + off = (tgt : Int)) (kt : x < 0 → J X tt mi mr ce sl tgt lv st) (kf : ¬ x < 0 → J X tt mi mr ce sl (pc + 3) lv st) : J X tt mi mr ce sl pc lv (.int x :: st) := by
  obtain ⟨p, l, e, R, s, m, args, below, meth, c, Q, D, N0⟩ := X
  obtain ⟨hx, hb, hown, hts, hml, hlk, hK, hfr, hlo, hce, hsl, hN0⟩ := C
  intro H locs ls hH hS hl
  exact lv_if_lt hx hb hd ht (fun q => kt q H locs ls hH hS hl) (fun q => kf q H locs ls hH hS hl)
theorem j_icmp_lt (C : jok X cc own n lev mc ms) {x y : Int32} {off : Int} {tgt : Nat} (hd : decode cc pc = .ok (.if_icmp .lt off, 3)) (ht : (pc : Int) + off = (tgt : Int)) (kt : x < y → J X tt mi mr ce sl tgt lv st) (kf : ¬ x < y → J X tt mi mr ce sl (pc + 3) lv st) : J X tt mi mr ce sl pc lv (.int y :: .int x :: st) := by
  obtain ⟨p, l, e, R, s, m, args, below, meth, c, Q, D, N0⟩ := X
  obtain ⟨hx, hb, hown, hts, hml, hlk, hK, hfr, hlo, hce, hsl, hN0⟩ := C
  intro H locs ls hH hS hl
  exact lv_icmp_lt hx hb hd ht (fun q => kt q H locs ls hH hS hl) (fun q => kf q H locs ls hH hS hl)
theorem j_if_ge (C : jok X cc own n lev mc ms) {x : Int32} {off : Int} {tgt : Nat} (hd : decode cc pc = .ok (.ifCond .ge off, 3)) (ht : (pc : Int) + off = (tgt : Int)) (kt : 0 ≤ x → J X tt mi mr ce sl tgt lv st) (kf : ¬ 0 ≤ x → J X tt mi mr ce sl (pc + 3) lv st) : J X tt mi mr ce sl pc lv (.int x :: st) := by
  obtain ⟨p, l, e, R, s, m, args, below, meth, c, Q, D, N0⟩ := X
  obtain ⟨hx, hb, hown, hts, hml, hlk, hK, hfr, hlo, hce, hsl, hN0⟩ := C
  intro H locs ls hH hS hl
  exact lv_if_ge hx hb hd ht (fun q => kt q H locs ls hH hS hl) (fun q => kf q H locs ls hH hS hl)
theorem j_icmp_ge (C : jok X cc own n lev mc ms) {x y : Int32} {off : Int} {tgt : Nat} (hd : decode cc pc = .ok (.if_icmp .ge off, 3)) (ht : (pc : Int) + off = (tgt : Int)) (kt : y ≤ x → J X tt mi mr ce sl tgt lv st) (kf : ¬ y ≤ x → J X tt mi mr ce sl (pc + 3) lv st) : J X tt mi mr ce sl pc lv (.int y :: .int x :: st) := by
  obtain ⟨p, l, e, R, s, m, args, below, meth, c, Q, D, N0⟩ := X
  obtain ⟨hx, hb, hown, hts, hml, hlk, hK, hfr, hlo, hce, hsl, hN0⟩ := C
  intro H locs ls hH hS hl
  exact lv_icmp_ge hx hb hd ht (fun q => kt q H locs ls hH hS hl) (fun q => kf q H locs ls hH hS hl)
theorem j_if_gt (C : jok X cc own n lev mc ms) {x : Int32} {off : Int} {tgt : Nat} (hd : decode cc pc = .ok (.ifCond .gt off, 3)) (ht : (pc : Int) + off = (tgt : Int)) (kt : 0 < x → J X tt mi mr ce sl tgt lv st) (kf : ¬ 0 < x → J X tt mi mr ce sl (pc + 3) lv st) : J X tt mi mr ce sl pc lv (.int x :: st) := by
  obtain ⟨p, l, e, R, s, m, args, below, meth, c, Q, D, N0⟩ := X
  obtain ⟨hx, hb, hown, hts, hml, hlk, hK, hfr, hlo, hce, hsl, hN0⟩ := C
  intro H locs ls hH hS hl
  exact lv_if_gt hx hb hd ht (fun q => kt q H locs ls hH hS hl) (fun q => kf q H locs ls hH hS hl)
theorem j_icmp_gt (C : jok X cc own n lev mc ms) {x y : Int32} {off : Int} {tgt : Nat} (hd : decode cc pc = .ok (.if_icmp .gt off, 3)) (ht : (pc : Int) + off = (tgt : Int)) (kt : y < x → J X tt mi mr ce sl tgt lv st) (kf : ¬ y < x → J X tt mi mr ce sl (pc + 3) lv st) : J X tt mi mr ce sl pc lv (.int y :: .int x :: st) := by
  obtain ⟨p, l, e, R, s, m, args, below, meth, c, Q, D, N0⟩ := X
  obtain ⟨hx, hb, hown, hts, hml, hlk, hK, hfr, hlo, hce, hsl, hN0⟩ := C
  intro H locs ls hH hS hl
  exact lv_icmp_gt hx hb hd ht (fun q => kt q H locs ls hH hS hl) (fun q => kf q H locs ls hH hS hl)
theorem j_if_le (C : jok X cc own n lev mc ms) {x : Int32} {off : Int} {tgt : Nat} (hd : decode cc pc = .ok (.ifCond .le off, 3)) (ht : (pc : Int) + off = (tgt : Int)) (kt : x ≤ 0 → J X tt mi mr ce sl tgt lv st) (kf : ¬ x ≤ 0 → J X tt mi mr ce sl (pc + 3) lv st) : J X tt mi mr ce sl pc lv (.int x :: st) := by
  obtain ⟨p, l, e, R, s, m, args, below, meth, c, Q, D, N0⟩ := X
  obtain ⟨hx, hb, hown, hts, hml, hlk, hK, hfr, hlo, hce, hsl, hN0⟩ := C
  intro H locs ls hH hS hl
  exact lv_if_le hx hb hd ht (fun q => kt q H locs ls hH hS hl) (fun q => kf q H locs ls hH hS hl)
theorem j_icmp_le (C : jok X cc own n lev mc ms) {x y : Int32} {off : Int} {tgt : Nat} (hd : decode cc pc = .ok (.if_icmp .le off, 3)) (ht : (pc : Int) + off = (tgt : Int)) (kt : x ≤ y → J X tt mi mr ce sl tgt lv st) (kf : ¬ x ≤ y → J X tt mi mr ce sl (pc + 3) lv st) : J X tt mi mr ce sl pc lv (.int y :: .int x :: st) := by
  obtain ⟨p, l, e, R, s, m, args, below, meth, c, Q, D, N0⟩ := X
  obtain ⟨hx, hb, hown, hts, hml, hlk, hK, hfr, hlo, hce, hsl, hN0⟩ := C
  intro H locs ls hH hS hl
  exact lv_icmp_le hx hb hd ht (fun q => kt q H locs ls hH hS hl) (fun q => kf q H locs ls hH hS hl)
theorem j_goto (C : jok X cc own n lev mc ms) {off : Int} {tgt : Nat} (hd : decode cc pc = .ok (.goto off, 3)) (ht : (pc : Int) + off = (tgt : Int)) (kk : J X tt mi mr ce sl tgt lv st) : J X tt mi mr ce sl pc lv st := by
  obtain ⟨p, l, e, R, s, m, args, below, meth, c, Q, D, N0⟩ := X
  obtain ⟨hx, hb, hown, hts, hml, hlk, hK, hfr, hlo, hce, hsl, hN0⟩ := C
  intro H locs ls hH hS hl
  exact lv_goto hx hb hd ht (kk H locs ls hH hS hl)
theorem j_ifnull (C : jok X cc own n lev mc ms) {r : Option Nat} {off : Int} {tgt : Nat} (hd : decode cc pc = .ok (.ifnull off, 3)) (ht : (pc : Int) + off = (tgt : Int)) (kt : r = none → J X tt mi mr ce sl tgt lv st) (kf : ∀ b, r = some b → J X tt mi mr ce sl (pc + 3) lv st) : J X tt mi mr ce sl pc lv (va_rf r :: st) := by
  obtain ⟨p, l, e, R, s, m, args, below, meth, c, Q, D, N0⟩ := X
  obtain ⟨hx, hb, hown, hts, hml, hlk, hK, hfr, hlo, hce, hsl, hN0⟩ := C
  intro H locs ls hH hS hl
  cases r with
  | none => exact lv_ifnullN hx hb hd ht (kt rfl H locs ls hH hS hl)
  | some a => exact lv_ifnull hx hb hd (kf a rfl H locs ls hH hS hl)
theorem j_ifnonnull (C : jok X cc own n lev mc ms) {r : Option Nat} {off : Int} {tgt : Nat} (hd : decode cc pc = .ok (.ifnonnull off, 3)) (ht : (pc : Int) + off = (tgt : Int)) (kt : ∀ b, r = some b → J X tt mi mr ce sl tgt lv st) (kf : r = none → J X tt mi mr ce sl (pc + 3) lv st) : J X tt mi mr ce sl pc lv (va_rf r :: st) := by
  obtain ⟨p, l, e, R, s, m, args, below, meth, c, Q, D, N0⟩ := X
  obtain ⟨hx, hb, hown, hts, hml, hlk, hK, hfr, hlo, hce, hsl, hN0⟩ := C
  intro H locs ls hH hS hl
  cases r with
  | none => exact lv_ifnonnullN hx hb hd (kf rfl H locs ls hH hS hl)
  | some a => exact lv_ifnonnull hx hb hd ht (kt a rfl H locs ls hH hS hl)
theorem j_acmp_eq (C : jok X cc own n lev mc ms) {rx ry : Option Nat} {off : Int} {tgt : Nat} (hd : decode cc pc = .ok (.if_acmp .eq off, 3)) (ht : (pc : Int) + off = (tgt : Int)) (kt : rx = ry → J X tt mi mr ce sl tgt lv st) (kf : ¬ rx = ry → J X tt mi mr ce sl (pc + 3) lv st) : J X tt mi mr ce sl pc lv (va_rf ry :: va_rf rx :: st) := by
  obtain ⟨p, l, e, R, s, m, args, below, meth, c, Q, D, N0⟩ := X
  obtain ⟨hx, hb, hown, hts, hml, hlk, hK, hfr, hlo, hce, hsl, hN0⟩ := C
  intro H locs ls hH hS hl
  exact lv_acmp_eq hx hb hd ht (fun q => kt q H locs ls hH hS hl) (fun q => kf q H locs ls hH hS hl)
theorem j_acmp_ne (C : jok X cc own n lev mc ms) {rx ry : Option Nat} {off : Int} {tgt : Nat} (hd : decode cc pc = .ok (.if_acmp .ne off, 3)) (ht : (pc : Int) + off = (tgt : Int)) (kt : ¬ rx = ry → J X tt mi mr ce sl tgt lv st) (kf : rx = ry → J X tt mi mr ce sl (pc + 3) lv st) : J X tt mi mr ce sl pc lv (va_rf ry :: va_rf rx :: st) := by
  obtain ⟨p, l, e, R, s, m, args, below, meth, c, Q, D, N0⟩ := X
  obtain ⟨hx, hb, hown, hts, hml, hlk, hK, hfr, hlo, hce, hsl, hN0⟩ := C
  intro H locs ls hH hS hl
  exact lv_acmp_ne hx hb hd ht (fun q => kt q H locs ls hH hS hl) (fun q => kf q H locs ls hH hS hl)
theorem j_tabOut (C : jok X cc own n lev mc ms) {df lo hi : Int} {offs : Array Int} {len : Nat} {x : Int32} {tgt : Nat} (hd : decode cc pc = .ok (.tableswitch df lo hi offs, len)) (h : x.toInt < lo ∨ hi < x.toInt) (ht : (pc : Int) + df = (tgt : Int)) (kk : J X tt mi mr ce sl tgt lv st) : J X tt mi mr ce sl pc lv (.int x :: st) := by
  obtain ⟨p, l, e, R, s, m, args, below, meth, c, Q, D, N0⟩ := X
  obtain ⟨hx, hb, hown, hts, hml, hlk, hK, hfr, hlo, hce, hsl, hN0⟩ := C
  intro H locs ls hH hS hl
  exact lv_tableOut hx hb hd h ht (kk H locs ls hH hS hl)
theorem j_tabIn (C : jok X cc own n lev mc ms) {df lo hi : Int} {offs : Array Int} {len : Nat} {x : Int32} {off : Int} {tgt : Nat} (hd : decode cc pc = .ok (.tableswitch df lo hi offs, len)) (h1 : ¬ x.toInt < lo) (h2 : ¬ hi < x.toInt) (ho : offs[(x.toInt - lo).toNat]? = some off) (ht : (pc : Int) + off = (tgt : Int)) (kk : J X tt mi mr ce sl tgt lv st) : J X tt mi mr ce sl pc lv (.int x :: st) := by
  obtain ⟨p, l, e, R, s, m, args, below, meth, c, Q, D, N0⟩ := X
  obtain ⟨hx, hb, hown, hts, hml, hlk, hK, hfr, hlo, hce, hsl, hN0⟩ := C
  intro H locs ls hH hS hl
  exact lv_tableIn hx hb hd h1 h2 ho ht (kk H locs ls hH hS hl)
theorem j_widen {ce' sl' : Nat} (h1 : ce ≤ ce') (h2 : sl ≤ sl') (kk : J X tt mi mr ce' sl' pc lv st) : J X tt mi mr ce sl pc lv st := by
  obtain ⟨p, l, e, R, s, m, args, below, meth, c, Q, D, N0⟩ := X
  intro H locs ls hH hS hl
  exact W.widen h1 h2 (kk H locs ls hH hS hl)
/-- a field is read -/
theorem j_get (C : jok X cc own n lev mc ms) {ix k a c : Nat} {v : Value} (hd : decode cc pc = .ok (.getfield ix, 3)) (hf : FL own ix c k) (hc : clOK c) (ha : tt a = some (.inl c)) (hv : (flds c (mi a) (mr a))[k]? = some v) (kk : jWT tt mr → J X tt mi mr ce sl (pc + 3) lv (v :: st)) : J X tt mi mr ce sl pc lv (va_rf (some a) :: st) := by
  obtain ⟨p, l, e, R, s, m, args, below, meth, c0, Q, D, N0⟩ := X
  obtain ⟨hx, hb, hown, hts, hml, hlk, hK, hfr, hlo, hce, hsl, hN0⟩ := C
  intro H locs ls hH hS hl
  obtain ⟨C, T, N, h1, h2, h3, h4⟩ := hf
  obtain ⟨C', T', N', g1, g2, g3, g4⟩ := hc
  cases h1.symm.trans g1
  have hP := hH.at ha
  rcases h4 with h4 | ⟨host, h4⟩
  · exact va_get hx hb hts g2 hown hK.1 hP 0 (fs := flds c (mi a) (mr a)) rfl h1 k h2 (hts _ h4) (fun x hx => by rw [h3] at hx; exact hx) hv hd (kk hH.2.2 H locs ls hH hS hl)
  · exact va_getN hx hb hts g2 hown hK.1 hP 0 (fs := flds c (mi a) (mr a)) rfl h1 k h2 (va_Nw.use rfl (hK.2.1 _ h4 rfl)) (fun x hx => by rw [h3] at hx; exact hx) hv hd (kk hH.2.2 H locs ls hH hS hl)
/-- an int field is read -/
theorem j_geti (C : jok X cc own n lev mc ms) {ix k a c : Nat} (hd : decode cc pc = .ok (.getfield ix, 3)) (hf : FL own ix c k) (hc : clOK c) (ha : tt a = some (.inl c)) (hv : (flds c (mi a) (mr a))[k]? = some (.int (mi a k))) (kk : J X tt mi mr ce sl (pc + 3) lv (.int (mi a k) :: st)) : J X tt mi mr ce sl pc lv (va_rf (some a) :: st) := j_get C hd hf hc ha hv (fun _ => kk)
/-- a reference field is read: it is r -/
theorem j_getr (C : jok X cc own n lev mc ms) {ix k a c : Nat} {q : Nat ⊕ (Nat × Nat)} (hd : decode cc pc = .ok (.getfield ix, 3)) (hf : FL own ix c k) (hc : clOK c) (hk : kt (.inl c) k = some q) (ha : tt a = some (.inl c)) (hv : (flds c (mi a) (mr a))[k]? = some (va_rf (mr a k))) (kk : ∀ r : Option Nat, mr a k = r → (∀ b, r = some b → tt b = some q) → J X tt mi mr ce sl (pc + 3) lv (va_rf r :: st)) : J X tt mi mr ce sl pc lv (va_rf (some a) :: st) :=
  j_get C hd hf hc ha hv (fun hT => kk _ rfl (fun b hb => hT a _ k q b ha hk hb))
/-- a reference field is read of which it is known what it holds -/
theorem j_gets (C : jok X cc own n lev mc ms) {ix k a c b : Nat} {q : Nat ⊕ (Nat × Nat)} (hd : decode cc pc = .ok (.getfield ix, 3)) (hf : FL own ix c k) (hc : clOK c) (hk : kt (.inl c) k = some q) (ha : tt a = some (.inl c)) (hv : (flds c (mi a) (mr a))[k]? = some (va_rf (mr a k))) (he : mr a k = some b) (kk : tt b = some q → J X tt mi mr ce sl (pc + 3) lv (va_rf (some b) :: st)) : J X tt mi mr ce sl pc lv (va_rf (some a) :: st) :=
  j_get C hd hf hc ha hv (fun hT => by rw [he]; exact kk (hT a _ k q b ha hk he))
/-- a field is written -/
theorem j_put (C : jok X cc own n lev mc ms) {ix k a c : Nat} {v : Value} {mi' : jI} {mr' : jR} (hd : decode cc pc = .ok (.putfield ix, 3)) (hf : FL own ix c k) (hc : clOK c) (hfin : ∀ C T N, classes[c]? = some (C, T, N) → (T k).2.2.2 = false ∨ ((T k).2.2.2 = true ∧ jini X ∧ (T k).1 = own)) (ha : tt a = some (.inl c)) (hs : flds c (mi' a) (mr' a) = (flds c (mi a) (mr a)).set k v) (hlen : k < (flds c (mi a) (mr a)).length) (hn : narrow (tyOf c k) v = v) (hfit : fits (tyOf c k) v = true)
    (hi : ∀ b, b ≠ a → mi' b = mi b) (hr : ∀ b, b ≠ a → mr' b = mr b) (hT : jWT tt mr → ∀ (k : Nat) (q' : Nat ⊕ (Nat × Nat)) (b : Nat), kt (.inl c) k = some q' → mr' a k = some b → tt b = some q') (kk : J X tt mi' mr' ce sl (pc + 3) lv st) : J X tt mi mr ce sl pc lv (v :: va_rf (some a) :: st) := by
  obtain ⟨p, l, e, R, s, m, args, below, meth, c0, Q, D, N0⟩ := X
  obtain ⟨hx, hb, hown, hts, hml, hlk, hK, hfr, hlo, hce, hsl, hN0⟩ := C
  intro H locs ls hH hS hl
  obtain ⟨C, T, N, h1, h2, h3, h4⟩ := hf
  obtain ⟨C', T', N', g1, g2, g3, g4⟩ := hc
  cases h1.symm.trans g1
  have hP := hH.at ha
  have hA : jA N0 a := (hH.2.1 a _ ha).1
  have hap := va_apart (own := own) (args := args) hts g2 (tyOf c) g3 g4 hK.1 h1
  obtain ⟨r, e1, cell, q1, q2, q3, q4⟩ := (hH.2.1 a _ ha).2
  have hr0 : r = (C, T, N) := Option.some.inj (e1.symm.trans h1)
  subst hr0
  obtain ⟨hSl, hfc, kC, hkC, hkind⟩ := hK.1.1 c _ h1
  obtain ⟨cf, kf, fi, f, hfi, hsl2⟩ := hSl k h2
  have hst := (u_facts hfc hkC (u_lays hts g2 h2) hfi).1
  have hfi' : s.fieldFound? C (T k).2.1 (T k).2.2.1 = some (cf, kf, fi, f) := by rw [h3] at hfi; exact hfi
  have hlay := hts _ (g2 _ (u_in_lay h2))
  have hft := u_fits hfc hkC hkind (u_lays hts g2 h2) hfi (g3 k h2) hn hfit
  have hfin2 : hasFlag f.accessFlags Acc.final = false ∨ (m.cls = cf ∧ meth.name = "<init>") := by
    rcases hfin C T N h1 with hf0 | ⟨hf1, hin2, hdecl⟩
    · unfold u_lay at hlay
      rw [if_neg (by rw [hf0]; decide)] at hlay
      exact Or.inl (u_store hfc hkC hkind hlay hfi (g3 k h2) hn hfit).1
    · unfold u_lay at hlay
      rw [if_pos hf1] at hlay
      refine Or.inr ⟨?_, hin2⟩
      obtain ⟨_, _, c', _, _, _, -, -, hf', -, -, -, hown2, -⟩ := Cond.laysFinal_spec hlay
      have e1 : c' = cf := by have := hfi.symm.trans hf'; simp at this; exact this.1.symm
      rw [hdecl] at hown2
      rw [← e1]
      exact Option.some.inj (hown.symm.trans hown2)
  have hlt : f.slot < cell.slots.size := by rw [hsl2]; exact k2_hasslot (q4 k h2)
  have hal : a < H.size := (Array.getElem?_eq_some_iff.mp q1).1
  have fin : ∀ (H1 : Heap) (locs1 : List Loc), H1 = H.setIfInBounds a (cell.setSlot f.slot v) → locs1 = locs ++ [⟨a, f.slot⟩] → W p l e R s m args below meth c0 H1 locs1 ce sl Q (F0 m (pc + 3) ls st) := by
    intro H1 locs1 eH eL
    subst eL
    have e2 : H1.size = H.size := by rw [eH]; simp
    have e3 : ∀ x : Nat, x ≠ a → H1[x]? = H[x]? := fun x hx => by rw [eH]; simp [Array.getElem?_setIfInBounds, Ne.symm hx]
    have e1 : H1[a]? = some (cell.setSlot f.slot v) := by rw [eH]; simp [Array.getElem?_setIfInBounds, hal]
    rw [hsl2] at e1
    refine kk H1 _ ls (hH.put ha e2 e3 hi hr ?_ (hT hH.2.2)) (hS.put e2 e3 hA) hl
    show ∃ r : vw_C, classes[c]? = some r ∧ t_OB a (D.1.1 c) r.2.2 (D.1.2 c) H1 (vp_V (flds c (mi' a) (mr' a)))
    rw [hs]
    exact ⟨_, h1, t_OB.to (V := updV (vp_V (flds c (mi a) (mr a))) k v) ⟨_, e1, q2, q3, t_set q4 hap h2 v⟩ (fun j _ => vp_updV_set hlen v j)⟩
  rcases h4 with h4 | ⟨host, h4⟩
  · exact W.putf hx hb hown (hts _ h4) hfi' hst hfin2 q1 (by rw [q3]; exact fun h => by cases h) hlt hft.1 (by rw [q2, q3]; exact hft.2) rfl rfl hd (fin _ _ rfl rfl)
  · exact va_Wputf hx hb hown (va_Nw.use rfl (hK.2.1 _ h4 rfl)) hfi' hst hfin2 q1 (by rw [q3]; exact fun h => by cases h) hlt hft.1 (by rw [q2, q3]; exact hft.2) rfl rfl hd (fin _ _ rfl rfl)
/-- an int field is written; the new ints get a name -/
theorem j_puti (C : jok X cc own n lev mc ms) {ix k a c : Nat} {x : Int32} (hd : decode cc pc = .ok (.putfield ix, 3)) (hf : FL own ix c k) (hc : clOK c) (hfin : ∀ C T N, classes[c]? = some (C, T, N) → (T k).2.2.2 = false ∨ ((T k).2.2.2 = true ∧ jini X ∧ (T k).1 = own)) (ha : tt a = some (.inl c)) (hs : ∀ (f : Nat → Int32) (g : Nat → Option Nat), flds c (va_up f k x) g = (flds c f g).set k (.int x) ∧ k < (flds c f g).length) (hn : narrow (tyOf c k) (.int x) = .int x) (hfit : fits (tyOf c k) (.int x) = true)
    (kk : ∀ mi' : jI, mi' = up2 mi a k x → J X tt mi' mr ce sl (pc + 3) lv st) : J X tt mi mr ce sl pc lv (.int x :: va_rf (some a) :: st) :=
  j_put C hd hf hc hfin ha (mi' := up2 mi a k x) (mr' := mr) (by rw [up2_row]; exact (hs _ _).1) (hs _ _).2 hn hfit (fun b hb => up2_off _ _ _ _ hb) (fun _ _ => rfl) (fun hT k' q' b hk hb => hT a _ k' q' b ha hk hb) (kk _ rfl)
theorem fits_rf (r : Option Nat) : (∀ C : String, narrow (.object C) (va_rf r) = va_rf r ∧ fits (.object C) (va_rf r) = true) ∧ ∀ t : FieldType, narrow (.array t) (va_rf r) = va_rf r ∧ fits (.array t) (va_rf r) = true := by
  cases r <;> exact ⟨fun _ => ⟨rfl, rfl⟩, fun _ => ⟨rfl, rfl⟩⟩
def isRefT : FieldType → Bool
  | .object _ => true
  | .array _ => true
  | _ => false
theorem fits_ref (r : Option Nat) {t : FieldType} (h : isRefT t = true) : narrow t (va_rf r) = va_rf r ∧ fits t (va_rf r) = true := by
  cases t <;> first | exact (fits_rf r).1 _ | exact (fits_rf r).2 _ | cases h
/-- a reference field is written -/
theorem j_putr (C : jok X cc own n lev mc ms) {ix k a c : Nat} {r : Option Nat} {q : Nat ⊕ (Nat × Nat)} (hd : decode cc pc = .ok (.putfield ix, 3)) (hf : FL own ix c k) (hc : clOK c) (hfin : ∀ C T N, classes[c]? = some (C, T, N) → (T k).2.2.2 = false ∨ ((T k).2.2.2 = true ∧ jini X ∧ (T k).1 = own)) (hk : kt (.inl c) k = some q) (ha : tt a = some (.inl c)) (hr : ∀ b, r = some b → tt b = some q) (hs : ∀ (f : Nat → Int32) (g : Nat → Option Nat), flds c f (va_up g k r) = (flds c f g).set k (va_rf r) ∧ k < (flds c f g).length) (hty : isRefT (tyOf c k) = true)
    (kk : ∀ mr' : jR, mr' = up2 mr a k r → J X tt mi mr' ce sl (pc + 3) lv st) : J X tt mi mr ce sl pc lv (va_rf r :: va_rf (some a) :: st) :=
  j_put C hd hf hc hfin ha (mi' := mi) (mr' := up2 mr a k r) (by rw [up2_row]; exact (hs _ _).1) (hs _ _).2 (fits_ref r hty).1 (fits_ref r hty).2 (fun _ _ => rfl) (fun b hb => up2_off _ _ _ _ hb) (fun hT k' q' b hk' hb => by
    rw [up2_ap] at hb
    by_cases e : k' = k
    · subst e
      rw [if_pos ⟨rfl, rfl⟩] at hb
      cases hk.symm.trans hk'
      exact hr b hb
    · rw [if_neg (fun z => e z.2)] at hb
      exact hT a _ k' q' b ha hk' hb) (kk _ rfl)
theorem jty_i {D : jD} : (tysD D)[3]? = some (D.2 3, .int) := rfl
/-- an array's length -/
theorem j_alen (C : jok X cc own n lev mc ms) {a t N : Nat} (hd : decode cc pc = .ok (.arraylength, 1)) (ha : tt a = some (.inr (t, N))) (ht : t < 5) (kk : J X tt mi mr ce sl (pc + 1) lv (.int (nI N) :: st)) : J X tt mi mr ce sl pc lv (va_rf (some a) :: st) := by
  obtain ⟨p, l, e, R, s, m, args, below, meth, c0, Q, D, N0⟩ := X
  obtain ⟨hx, hb, hown, hts, hml, hlk, hK, hfr, hlo, hce, hsl, hN0⟩ := C
  intro H locs ls hH hS hl
  have hP := hH.at ha
  have hty : ∃ ty, (tysD D)[t]? = some (D.2 t, ty) := by
    rcases (show t = 0 ∨ t = 1 ∨ t = 2 ∨ t = 3 ∨ t = 4 by omega) with rfl | rfl | rfl | rfl | rfl <;> exact ⟨_, rfl⟩
  obtain ⟨ty, hty⟩ := hty
  exact va_alen hx hb hK.1 hP 0 t (x := (N, arrE t (mi a) (mr a))) rfl hty rfl hd (kk H locs ls hH hS hl)
/-- an int array is read at place j -/
theorem j_iald (C : jok X cc own n lev mc ms) {a N : Nat} {i : Int32} (j : Nat) (hd : decode cc pc = .ok (.iaload, 1)) (ha : tt a = some (.inr (3, N))) (hi : i = nI j) (hj : j < N) (hN : N < 2 ^ 31) (kk : J X tt mi mr ce sl (pc + 1) lv (.int (mi a j) :: st)) : J X tt mi mr ce sl pc lv (.int i :: va_rf (some a) :: st) := by
  obtain ⟨p, l, e, R, s, m, args, below, meth, c0, Q, D, N0⟩ := X
  obtain ⟨hx, hb, hown, hts, hml, hlk, hK, hfr, hlo, hce, hsl, hN0⟩ := C
  intro H locs ls hH hS hl
  subst hi
  refine va_iald hx hb hK.1 (hH.at ha) 0 3 (f := mi a) rfl rfl (vp_in_nI hj hN) hd ?_
  rw [nI_clamp (Nat.lt_trans hj hN)]
  exact kk H locs ls hH hS hl
/-- a boolean array is read at place j -/
theorem j_zald (C : jok X cc own n lev mc ms) {a N : Nat} {i : Int32} (j : Nat) (hd : decode cc pc = .ok (.baload, 1)) (ha : tt a = some (.inr (4, N))) (hi : i = nI j) (hj : j < N) (hN : N < 2 ^ 31) (kk : J X tt mi mr ce sl (pc + 1) lv (.int (mi a j) :: st)) : J X tt mi mr ce sl pc lv (.int i :: va_rf (some a) :: st) := by
  obtain ⟨p, l, e, R, s, m, args, below, meth, c0, Q, D, N0⟩ := X
  obtain ⟨hx, hb, hown, hts, hml, hlk, hK, hfr, hlo, hce, hsl, hN0⟩ := C
  intro H locs ls hH hS hl
  subst hi
  refine va_zald hx hb hK.1 (hH.at ha) 0 4 (f := mi a) rfl rfl (vp_in_nI hj hN) hd ?_
  rw [nI_clamp (Nat.lt_trans hj hN)]
  exact kk H locs ls hH hS hl
def refC (t : Nat) : String := match t with
  | 0 => "OrderDesk$Item"
  | 1 => "OrderDesk$Member"
  | _ => "OrderDesk$Line"
theorem arrE_ref {t : Nat} (h : t < 3) (f : Nat → Int32) (g : Nat → Option Nat) : arrE t f g = .inr (.inr (.inr (.inr g))) := by
  rcases (show t = 0 ∨ t = 1 ∨ t = 2 by omega) with rfl | rfl | rfl <;> rfl
theorem tys_ref {t : Nat} (h : t < 3) (D : jD) : (tysD D)[t]? = some (D.2 t, .object (refC t)) := by
  rcases (show t = 0 ∨ t = 1 ∨ t = 2 by omega) with rfl | rfl | rfl <;> rfl
theorem kt_ref {t : Nat} (h : t < 3) (N k : Nat) : kt (.inr (t, N)) k = some (.inl t) := by
  rcases (show t = 0 ∨ t = 1 ∨ t = 2 by omega) with rfl | rfl | rfl <;> rfl
/-- an array of references is read at place j -/
theorem j_aald (C : jok X cc own n lev mc ms) {a N t : Nat} {i : Int32} (j : Nat) (hd : decode cc pc = .ok (.aaload, 1)) (ha : tt a = some (.inr (t, N))) (ht : t < 3) (hi : i = nI j) (hj : j < N) (hN : N < 2 ^ 31) (kk : ∀ r : Option Nat, mr a j = r → (∀ b, r = some b → tt b = some (.inl t)) → J X tt mi mr ce sl (pc + 1) lv (va_rf r :: st)) : J X tt mi mr ce sl pc lv (.int i :: va_rf (some a) :: st) := by
  obtain ⟨p, l, e, R, s, m, args, below, meth, c0, Q, D, N0⟩ := X
  obtain ⟨hx, hb, hown, hts, hml, hlk, hK, hfr, hlo, hce, hsl, hN0⟩ := C
  intro H locs ls hH hS hl
  subst hi
  refine va_aldq hx hb hK.1 (hH.at ha) 0 t (n := N) (f := mr a) (by show some (a, Sum.inl (D.2 t, N, arrE t (mi a) (mr a))) = _; rw [arrE_ref ht]) (tys_ref ht D) (vp_in_nI hj hN) hd ?_
  rw [nI_clamp (Nat.lt_trans hj hN)]
  exact kk _ rfl (fun b hb => hH.2.2 a _ j _ b ha (kt_ref ht N j) hb) H locs ls hH hS hl
theorem j_aalds (C : jok X cc own n lev mc ms) {a N t b : Nat} {i : Int32} (j : Nat) (hd : decode cc pc = .ok (.aaload, 1)) (ha : tt a = some (.inr (t, N))) (ht : t < 3) (hi : i = nI j) (hj : j < N) (hN : N < 2 ^ 31) (he : mr a j = some b) (kk : tt b = some (.inl t) → J X tt mi mr ce sl (pc + 1) lv (va_rf (some b) :: st)) : J X tt mi mr ce sl pc lv (.int i :: va_rf (some a) :: st) :=
  j_aald C j hd ha ht hi hj hN (fun r hr hT => by
    subst hr
    rw [he]
    exact kk (hT b he))
/-- an int array is written at place j -/
theorem j_iast (C : jok X cc own n lev mc ms) {a N : Nat} {i x : Int32} (j : Nat) (hd : decode cc pc = .ok (.iastore, 1)) (ha : tt a = some (.inr (3, N))) (hi : i = nI j) (hj : j < N) (hN : N < 2 ^ 31) (kk : ∀ mi' : jI, mi' = up2 mi a j x → J X tt mi' mr ce sl (pc + 1) lv st) : J X tt mi mr ce sl pc lv (.int x :: .int i :: va_rf (some a) :: st) := by
  obtain ⟨p, l, e, R, s, m, args, below, meth, c0, Q, D, N0⟩ := X
  obtain ⟨hx, hb, hown, hts, hml, hlk, hK, hfr, hlo, hce, hsl, hN0⟩ := C
  intro H locs ls hH hS hl
  subst hi
  have hA : jA N0 a := (hH.2.1 a _ ha).1
  refine W.iast hx hb ((hH.at ha) 0 _ rfl) ((hK.1.2 3 _ rfl).1 N (fun j => .int (mi a j))) (fun q => by cases q) (by show ¬ (_ ∨ (arrV _ _ _).slots.size ≤ _); rw [arrV_size]; exact vp_in_nI hj hN) rfl rfl hd fun H1 e1 z oq => ?_
  refine kk _ rfl H1 _ ls (hH.put ha z oq (fun b hb => up2_off _ _ _ _ hb) (fun _ _ => rfl) ?_ (fun k q' b hk hb => hH.2.2 a _ k q' b ha hk hb)) (hS.put z oq hA) hl
  show H1[a]? = some (vp_cell _ _)
  rw [e1]
  show some ((vp_cell (D.2 3) (N, .inl (mi a))).setSlot _ _) = some (vp_cell (D.2 3) (N, .inl (up2 mi a j x a)))
  rw [vp_cell_i, vp_cell_i, arrV_store, up2_row, nI_clamp (Nat.lt_trans hj hN)]
  congr 2
  funext q
  by_cases hq : q = j
  · subst hq
    simp [updV, va_up]
  · simp [updV, va_up, hq]
/-- a boolean array is written at place j -/
theorem j_zast (C : jok X cc own n lev mc ms) {a N : Nat} {i x : Int32} (j : Nat) (hd : decode cc pc = .ok (.bastore, 1)) (ha : tt a = some (.inr (4, N))) (hi : i = nI j) (hj : j < N) (hN : N < 2 ^ 31) (hxb : narrow .boolean (.int x) = .int x) (kk : ∀ mi' : jI, mi' = up2 mi a j x → J X tt mi' mr ce sl (pc + 1) lv st) : J X tt mi mr ce sl pc lv (.int x :: .int i :: va_rf (some a) :: st) := by
  obtain ⟨p, l, e, R, s, m, args, below, meth, c0, Q, D, N0⟩ := X
  obtain ⟨hx, hb, hown, hts, hml, hlk, hK, hfr, hlo, hce, hsl, hN0⟩ := C
  intro H locs ls hH hS hl
  subst hi
  have hA : jA N0 a := (hH.2.1 a _ ha).1
  refine W.zast hx hb ((hH.at ha) 0 _ rfl) ((hK.1.2 4 _ rfl).1 N (fun j => .int (mi a j))) (fun q => by cases q) (by show ¬ (_ ∨ (arrV _ _ _).slots.size ≤ _); rw [arrV_size]; exact vp_in_nI hj hN) rfl rfl hd fun H1 e1 z oq => ?_
  refine kk _ rfl H1 _ ls (hH.put ha z oq (fun b hb => up2_off _ _ _ _ hb) (fun _ _ => rfl) ?_ (fun k q' b hk hb => hH.2.2 a _ k q' b ha hk hb)) (hS.put z oq hA) hl
  show H1[a]? = some (vp_cell _ _)
  rw [e1]
  show some ((vp_cell (D.2 4) (N, .inl (mi a))).setSlot _ _) = some (vp_cell (D.2 4) (N, .inl (up2 mi a j x a)))
  rw [vp_cell_i, vp_cell_i, arrV_store, up2_row, nI_clamp (Nat.lt_trans hj hN)]
  congr 2
  funext q
  by_cases hq : q = j
  · subst hq
    simp [updV, va_up, hxb]
  · simp [updV, va_up, hq]
/-- an array of references is written at place j -/
theorem j_aast (C : jok X cc own n lev mc ms) {a N t : Nat} {i : Int32} {v : Nat} (j : Nat) (hd : decode cc pc = .ok (.aastore, 1)) (ha : tt a = some (.inr (t, N))) (ht : t < 3) (hi : i = nI j) (hj : j < N) (hN : N < 2 ^ 31) (hv : tt v = some (.inl t)) (kk : ∀ mr' : jR, mr' = up2 mr a j (some v) → J X tt mi mr' ce sl (pc + 1) lv st) : J X tt mi mr ce sl pc lv (va_rf (some v) :: .int i :: va_rf (some a) :: st) := by
  obtain ⟨p, l, e, R, s, m, args, below, meth, c0, Q, D, N0⟩ := X
  obtain ⟨hx, hb, hown, hts, hml, hlk, hK, hfr, hlo, hce, hsl, hN0⟩ := C
  intro H locs ls hH hS hl
  subst hi
  have hA : jA N0 a := (hH.2.1 a _ ha).1
  have hlt : (nI j).toNatClampNeg < N := by rw [nI_clamp (Nat.lt_trans hj hN)]; exact hj
  have hcl : ∃ r : vw_C, classes[t]? = some r ∧ r.1 = refC t := by
    rcases (show t = 0 ∨ t = 1 ∨ t = 2 by omega) with rfl | rfl | rfl <;> exact ⟨_, rfl, rfl⟩
  obtain ⟨r, hc, hrn⟩ := hcl
  have hat := (hH.2.1 a _ ha).2
  have hcell : H[a]? = some (vp_cell (D.2 t) (N, .inr (.inr (.inr (.inr (mr a)))))) := by
    have h1 : H[a]? = some (vp_cell (D.2 t) (N, arrE t (mi a) (mr a))) := hat
    rw [arrE_ref ht] at h1
    exact h1
  obtain ⟨r', hr', cellV, g1, g2, g3, -⟩ := (hH.2.1 v _ hv).2
  have hcls := (hK.1.1 t r hc).2
  have hRA := (hK.1.2 t _ (tys_ref ht D)).2
  rw [← hrn] at hRA
  obtain ⟨kA, comp, k1, k2, k3, -⟩ := hRA
  have hcomp : comp = D.1.1 t := Option.some.inj (k3.symm.trans hcls.1)
  subst hcomp
  obtain ⟨kC, hkC, -⟩ := hcls.2
  refine W.aast hx hb hcell (fun q h => by cases h) (fun h => by cases h) k1 k2 rfl hkC ⟨nI_pos (Nat.lt_trans hj hN), by show _ < (arrV _ _ _).slots.size; rw [arrV_size]; exact hlt⟩ g1 (fun q h => by rw [g3] at h; cases h) (by rw [g2]; exact hkC) (by rw [g2]; exact va_assign hcls) rfl rfl hd fun H1 e1 z oq => ?_
  refine kk _ rfl H1 _ ls (hH.put ha z oq (fun _ _ => rfl) (fun b hb => up2_off _ _ _ _ hb) ?_ ?_) (hS.put z oq hA) hl
  · show H1[a]? = some (vp_cell (D.2 t) (N, arrE t (mi a) (up2 mr a j (some v) a)))
    rw [e1, arrE_ref ht, vp_cell_q, vp_cell_q, arrV_store, up2_row, nI_clamp (Nat.lt_trans hj hN)]
    congr 2
    funext q
    by_cases hq : q = j
    · subst hq
      simp [updV, va_up, va_rf]
    · simp [updV, va_up, hq]
  · intro k q' b hk hb
    rw [kt_ref ht] at hk
    cases hk
    rw [up2_ap] at hb
    by_cases e : k = j
    · rw [if_pos ⟨rfl, e⟩] at hb
      cases hb
      exact hv
    · rw [if_neg (fun z => e z.2)] at hb
      exact hH.2.2 a _ k _ b ha (kt_ref ht N k) hb
/-- a new object of class number c -/
theorem j_new (C : jok X cc own n lev mc ms) {ix c : Nat} {Cn : String} {T : u_T} {N : Nat} (hd : decode cc pc = .ok (.new ix, 3)) (hc : clOK c) (hcn : classes[c]? = some (Cn, T, N)) (h1 : Cond.classLink own ix Cn ∈ gw) (h2 : Cond.instantiable Cn N ∈ gw) (h3 : Cond.initialized Cn ∈ gw) (hfs : ∀ j, j < N → defaultValue (tyOf c j) = vp_V (flds c (fun _ => 0) (fun _ => none)) j) (hce : ce + 1 ≤ mc) (hsl : sl + N ≤ ms)
    (kk : ∀ q : Nat, tt q = none → J X (va_up tt q (some (.inl c))) (va_up mi q (fun _ => 0)) (va_up mr q (fun _ => none)) (ce + 1) (sl + N) (pc + 3) lv (va_rf (some q) :: st)) : J X tt mi mr ce sl pc lv st := by
  obtain ⟨p, l, e, R, s, m, args, below, meth, c0, Q, D, N0⟩ := X
  obtain ⟨hx, hb, hown, hts, hml, hlk, hK, hfr, hlo, hRc, hRs, hN0⟩ := C
  intro H locs ls hH hS hl
  obtain ⟨C', T', N', g1, g2, g3, g4⟩ := hc
  cases hcn.symm.trans g1
  have hKn := hK.1.1 c _ g1
  refine W.newcK hx hb hown (hts _ h1) (hts _ h2) (hts _ h3) rfl hd (by rw [hRc]; exact hce) (by rw [hRs]; exact hsl) hKn.2.1 rfl fun H1 kC hkC e1 z1 o1 => ?_
  refine kk H.size hH.fresh H1 locs ls (hH.new (by omega) o1 ?_) ⟨Nat.le_trans hS.1 (by omega), fun x h1 h2 => (o1 x (Nat.lt_of_lt_of_le h1 hS.1)).trans (hS.2.1 x h1 h2), hS.2.2⟩ hl
  exact ⟨_, g1, (u_born (tyOf c) hts g2 hKn hkC e1 g3).to hfs⟩
/-- a new array of references -/
theorem j_anew (C : jok X cc own n lev mc ms) {ix t : Nat} {i : Int32} (N : Nat) (hd : decode cc pc = .ok (.anewarray ix, 3)) (ht : t < 3) (h1 : Cond.classLink own ix (refC t) ∈ gw) (hi : i = nI N) (hN : N < 100000) (hce : ce + 1 ≤ mc) (hsl : sl + N ≤ ms)
    (kk : ∀ q : Nat, tt q = none → J X (va_up tt q (some (.inr (t, N)))) (va_up mi q (fun _ => 0)) (va_up mr q (fun _ => none)) (ce + 1) (sl + N) (pc + 3) lv (va_rf (some q) :: st)) : J X tt mi mr ce sl pc lv (.int i :: st) := by
  obtain ⟨p, l, e, R, s, m, args, below, meth, c0, Q, D, N0⟩ := X
  obtain ⟨hx, hb, hown, hts, hml, hlk, hK, hfr, hlo, hRc, hRs, hN0⟩ := C
  intro H locs ls hH hS hl
  subst hi
  have hAO : va_AO (refC t) s := by
    rcases (show t = 0 ∨ t = 1 ∨ t = 2 by omega) with rfl | rfl | rfl
    · exact hK.2.2.1
    · exact hK.2.2.2.1
    · exact hK.2.2.2.2
  have hcl : (nI N).toNatClampNeg = N := nI_clamp (by omega)
  have hKA := (hK.1.2 t _ (tys_ref ht D)).2
  obtain ⟨kA0, comp0, k1, k2, k3, k4⟩ := hKA
  refine W.anew hx hb hown (hts _ h1) (va_AO.use hAO) rfl hd rfl (nI_pos (by omega)) (by rw [hcl]; omega) (by rw [hRc]; exact hce) (by rw [hcl, hRs]; exact hsl) fun cA kA comp f1 f2 f3 f4 => ?_
  have hcA : cA = D.2 t := Option.some.inj (f1.symm.trans k4)
  subst hcA
  rw [hcl]
  generalize hH1 : H.push ({ cls := D.2 t, slots := Array.replicate N .null, vm := .none } : Cell) = H1
  have z1 : H1.size = H.size + 1 := by rw [← hH1, Array.size_push]
  have e1 : H1[H.size]? = some (arrV (D.2 t) N (fun _ => .null)) := by rw [← hH1, Array.getElem?_push_size, ← arrV_new]
  have o1 : ∀ q : Nat, q < H.size → H1[q]? = H[q]? := fun q hq => by rw [← hH1, Array.getElem?_push, if_neg (Nat.ne_of_lt hq)]
  refine kk H.size hH.fresh H1 locs ls (hH.new (by omega) o1 ?_) ⟨Nat.le_trans hS.1 (by omega), fun x h1 h2 => (o1 x (Nat.lt_of_lt_of_le h1 hS.1)).trans (hS.2.1 x h1 h2), hS.2.2⟩ hl
  show H1[H.size]? = some (vp_cell (D.2 t) (N, arrE t (fun _ => 0) (fun _ => none)))
  rw [arrE_ref ht, vp_cell_q]
  exact e1
/-- a new array of ints or booleans -/
theorem j_newa (C : jok X cc own n lev mc ms) {at0 : ArrayType} {t : Nat} {i : Int32} (N : Nat) (hd : decode cc pc = .ok (.newarray at0, 2)) (ht : (t = 3 ∧ at0 = .int) ∨ (t = 4 ∧ at0 = .boolean)) (hi : i = nI N) (hN : N < 100000) (hce : ce + 1 ≤ mc) (hsl : sl + N ≤ ms)
    (kk : ∀ q : Nat, tt q = none → J X (va_up tt q (some (.inr (t, N)))) (va_up mi q (fun _ => 0)) (va_up mr q (fun _ => none)) (ce + 1) (sl + N) (pc + 2) lv (va_rf (some q) :: st)) : J X tt mi mr ce sl pc lv (.int i :: st) := by
  obtain ⟨p, l, e, R, s, m, args, below, meth, c0, Q, D, N0⟩ := X
  obtain ⟨hx, hb, hown, hts, hml, hlk, hK, hfr, hlo, hRc, hRs, hN0⟩ := C
  intro H locs ls hH hS hl
  subst hi
  have hcl : (nI N).toNatClampNeg = N := nI_clamp (by omega)
  rcases ht with ⟨rfl, rfl⟩ | ⟨rfl, rfl⟩
  · have k4 := (hK.1.2 3 _ rfl).2
    refine va_newaK (atype := .int) hx hb (hts _ ac_int) rfl hd rfl (nI_pos (by omega)) hcl (by show N * 4 ≤ _; omega) (by rw [hRc]; exact hce) (by rw [hRs]; exact hsl) rfl fun H1 cA e1 z1 o1 hAr hNm => ?_
    have hcA : cA = D.2 3 := Option.some.inj (hNm.symm.trans k4)
    subst hcA
    refine kk H.size hH.fresh H1 locs ls (hH.new (by omega) o1 ?_) ⟨Nat.le_trans hS.1 (by omega), fun x h1 h2 => (o1 x (Nat.lt_of_lt_of_le h1 hS.1)).trans (hS.2.1 x h1 h2), hS.2.2⟩ hl
    show H1[H.size]? = some (vp_cell (D.2 3) (N, .inl (fun _ => 0)))
    rw [vp_cell_i]
    exact e1
  · have k4 := (hK.1.2 4 _ rfl).2
    refine va_newaK (atype := .boolean) hx hb (hts _ ac_boolean) rfl hd rfl (nI_pos (by omega)) hcl (by show N * 1 ≤ _; omega) (by rw [hRc]; exact hce) (by rw [hRs]; exact hsl) rfl fun H1 cA e1 z1 o1 hAr hNm => ?_
    have hcA : cA = D.2 4 := Option.some.inj (hNm.symm.trans k4)
    subst hcA
    refine kk H.size hH.fresh H1 locs ls (hH.new (by omega) o1 ?_) ⟨Nat.le_trans hS.1 (by omega), fun x h1 h2 => (o1 x (Nat.lt_of_lt_of_le h1 hS.1)).trans (hS.2.1 x h1 h2), hS.2.2⟩ hl
    show H1[H.size]? = some (vp_cell (D.2 4) (N, .inl (fun _ => 0)))
    rw [vp_cell_i]
    exact e1
/-- Object's constructor -/
theorem j_obj (C : jok X cc own n lev mc ms) {ix a : Nat} (hd : decode cc pc = .ok (.invokespecial ix, 3)) (h1 : Cond.methodLink own ix objectInit ∈ gw) (hlev : 1 ≤ lev) (hlv : lv.length = n) (hst : (st.map fun v => v.category).sum ≤ 8) (kk : J X tt mi mr ce sl (pc + 3) lv st) : J X tt mi mr ce sl pc lv (va_rf (some a) :: st) := by
  obtain ⟨p, l, e, R, s, m, args, below, meth, c0, Q, D, N0⟩ := X
  obtain ⟨hx, hb, hown, hts, hml, hlk, hK, hfr, hlo, hRc, hRs, hN0⟩ := C
  intro H locs ls hH hS hl
  refine W.objInit hx hb hown (hts _ h1) (hts _ mi_obj) (hts _ k_obj) rfl (by rw [hml, ← hlv]; exact hl.1.1) rfl hd (by omega) (by have := lv_room (m := m) (pc := pc) (ls := ls) (rest := va_rf (some a) :: st) hst; omega) ?_
  exact kk H locs ls hH hS hl
-- returns
theorem j_iret (C : jok X cc own n lev mc ms) {Post : jPost} {ret : Option FieldType} (E : jend X ret ce sl Post) {v : Int32} {ty : FieldType} (hr : ret = some ty) (hn : narrow ty (.int v) = .int v) (hd : decode cc pc = .ok (.ireturn, 1)) (h : Post (some (.int v)) tt mi mr) : J X tt mi mr ce sl pc lv [.int v] := by
  obtain ⟨p, l, e, R, s, m, args, below, meth, c0, Q, D, N0⟩ := X
  obtain ⟨hx, hb, hown, hts, hml, hlk, hK, hfr, hlo, hRc, hRs, hN0⟩ := C
  obtain ⟨e1, e2⟩ := E
  intro H locs ls hH hS hl
  rw [e2]
  exact W.zret hx hb (e1.trans hr) hn (fun t ht hW => ⟨⟨_, tt, mi, mr, rfl, h, by rw [ht]; exact hH⟩, hS.F ht⟩) hS.2.2 hd hlk
theorem j_vret (C : jok X cc own n lev mc ms) {Post : jPost} (E : jend X none ce sl Post) (hd : decode cc pc = .ok (.return_, 1)) (h : Post none tt mi mr) : J X tt mi mr ce sl pc lv [] := by
  obtain ⟨p, l, e, R, s, m, args, below, meth, c0, Q, D, N0⟩ := X
  obtain ⟨hx, hb, hown, hts, hml, hlk, hK, hfr, hlo, hRc, hRs, hN0⟩ := C
  obtain ⟨e1, e2⟩ := E
  intro H locs ls hH hS hl
  rw [e2]
  exact W.vret hx hb e1 (fun t ht hW => ⟨⟨_, tt, mi, mr, rfl, h, by rw [ht]; exact hH⟩, hS.F ht⟩) hS.2.2 hd hlk
theorem j_aret (C : jok X cc own n lev mc ms) {Post : jPost} {rt : String} (E : jend X (some (.object rt)) ce sl Post) {r : Option Nat} (hd : decode cc pc = .ok (.areturn, 1)) (h : Post (some (va_rf r)) tt mi mr) : J X tt mi mr ce sl pc lv [va_rf r] := by
  obtain ⟨p, l, e, R, s, m, args, below, meth, c0, Q, D, N0⟩ := X
  obtain ⟨hx, hb, hown, hts, hml, hlk, hK, hfr, hlo, hRc, hRs, hN0⟩ := C
  obtain ⟨e1, e2⟩ := E
  intro H locs ls hH hS hl
  rw [e2]
  exact W.aret hx hb e1 (Or.inl ⟨_, rfl⟩) (va_rf_or r) (fun t ht hW => ⟨⟨_, tt, mi, mr, rfl, h, by rw [ht]; exact hH⟩, hS.F ht⟩) hS.2.2 hd hlk
-- calls
theorem jblind (D : jD) (N0 : Nat) (av : List Value) : FrameBlind (va_Pc av (fun U => hw D N0 tt mi mr U.heap ∧ jK D U)) := fun a U g mk q => ⟨q.1, q.2.1, jK.same (s := U) (U := U.calling g mk a) rfl q.2.2⟩
theorem jwords {s : State} {args : Array Value} {y : MethodName} {cb : ByteArray} {nb : Nat} {ret : Option FieldType} (hts : ∀ w ∈ gw, w.before args s = true) (hk : Cond.code y cb nb ret ∈ gw) : ∀ w ∈ (Cond.code y cb nb ret :: gw), ∀ (a' : Array Value) (U : State), s.WarmedH U.vm → w.before a' U = true := by
  intro w hw a' U hW
  have hm : w ∈ gw := by
    rcases List.mem_cons.mp hw with h | h
    · rw [h]; exact hk
    · exact h
  exact word_at hW (good_of_word (gw_good w hm)) (hts w hm)
theorem jCallB {R : Room} {s : State} {args : Array Value} {ix lev' mc' ms' nb k lev : Nat} {y : MethodName} {cb : ByteArray} {ret : Option FieldType} (hts : ∀ w ∈ gw, w.before args s = true) (hk : Cond.code y cb nb ret ∈ gw) (hM : ML own ix y k) (hfr : lev ≤ R.frames) (hlo : 30 * lev ≤ R.locals) (hlev : lev' < lev) (hnb : nb ≤ 11) :
    CallB R s args own ix y cb nb ret (.code y cb nb ret :: gw) ({ frames := lev', cells := mc', slots := ms', locals := 30 * lev' }) mc' ms' k := by
  obtain ⟨m1, m2, m3, m4⟩ := hM
  refine ⟨rfl, rfl, ?_, ?_, jwords hts hk, List.mem_cons_self, hts _ hk, hts _ m2, m3, fun sig h => ?_, hts _ m1⟩
  · show lev' + 1 ≤ R.frames
    omega
  · show 8 + (nb + 11) + 30 * lev' ≤ R.locals
    omega
  · rw [h] at m4
    exact (Option.some.inj m4).symm
/-- what a call leaves -/
theorem j_after {p : Program} {l : Launch} {e : Env} {R : Room} {s : State} {m : MethodId} {args : Array Value} {below : List Frame} {meth : Method} {c : Code} {Q : State → Prop} {D : jD} {N0 : Nat} {H : Heap} {locs : List Loc} {ls : Array Slot} {mc' ms' : Nat} {st0 : List Value} {Post : jPost} {a : Array Value}
    (hr : va_Run p l e R s m args below meth c H locs ce sl mc' ms' (F0 m pc ls st0) st (jQ D N0 Post a) (jA N0)) (hS : va_S (jA N0) s.heap H locs) (hl : jL ls lv)
    (kk : ∀ (v : Option Value) (tt' : jT) (mi' : jI) (mr' : jR), Post v tt' mi' mr' → J (p, l, e, R, s, m, args, below, meth, c, Q, D, N0) tt' mi' mr' (ce + mc') (sl + ms') (pc + 3) lv (v.toList ++ st)) : W p l e R s m args below meth c H locs ce sl Q (F0 m pc ls st0) := by
  intro T hT X
  obtain ⟨v, st₀, t, T', L, h0, X', hL, e1, e2, ⟨⟨v', tt', mi', mr', hv, hp, hH⟩, hz, hk⟩, stp⟩ := hr T hT X
  cases hv
  rw [h0] at hz hk
  obtain ⟨t2, a1, b1⟩ := kk v tt' mi' mr' hp T'.heap (locs ++ L) ls (by rw [e1]; exact hH)
    ⟨Nat.le_trans hS.1 (by rw [e1]; exact hz), fun q h1 h2 => by rw [e1, hk q (Nat.lt_of_lt_of_le h1 hS.1) h2]; exact hS.2.1 q h1 h2, fun q hq => by
      rcases List.mem_append.mp hq with h | h
      · exact hS.2.2 q h
      · exact hL q h⟩ hl T' rfl X'
  exact ⟨t2, stp t2 a1, b1⟩
/-- invokevirtual -/
theorem j_callV (C : jok X cc own n lev mc ms) {ix lev' mc' ms' nb k b c : Nat} {y : MethodName} {cb : ByteArray} {ret : Option FieldType} {Post : jPost} (As : List Value) {st : List Value} (hd : decode cc pc = .ok (.invokevirtual ix, 3)) (hM : ML own ix y k) (hV : MV y) (hk : Cond.code y cb nb ret ∈ gw) (hc : ∃ T N, classes[c]? = some (y.cls, T, N)) (hb0 : tt b = some (.inl c)) (hCt : Ct (jLa X) (jDa X) (jN0 X) lev' mc' ms' y cb nb ret (va_rf (some b) :: As) tt mi mr Post) (hlev : lev' < lev) (hnb : nb ≤ 11) (hAs : As.length = k) (hce : ce + mc' ≤ mc) (hsl : sl + ms' ≤ ms) (hlv : lv.length = n) (hst : (st.map fun v => v.category).sum ≤ 8)
    (kk : ∀ (v : Option Value) (tt' : jT) (mi' : jI) (mr' : jR), Post v tt' mi' mr' → J X tt' mi' mr' (ce + mc') (sl + ms') (pc + 3) lv (v.toList ++ st)) : J X tt mi mr ce sl pc lv (As.reverse ++ va_rf (some b) :: st) := by
  obtain ⟨p, l, e, R, s, m, args, below, meth, c0, Q, D, N0⟩ := X
  obtain ⟨hx, hb, hown, hts, hml, hlk, hK, hfr, hlo, hRc, hRs, hN0⟩ := C
  intro H locs ls hH hS hl
  obtain ⟨T, N, hc⟩ := hc
  have hat : va_at D.1 classes (b, .inr (c, flds c (mi b) (mr b))) H := (hH.2.1 b _ hb0).2
  have hrc : ∃ cell : Cell, H[b]? = some cell ∧ cell.vm.isStatics = false ∧ s.vm.findClass y.cls = some cell.cls := va_recv hK.1 (ws := [(b, .inr (c, flds c (mi b) (mr b)))]) (hH.at hb0) hc (q0 := 0) rfl
  exact j_after (va_runV (cc := cc) (nL := n) (Ts := gw) (own := own) ⟨hx, hb, hml, hown, hts⟩ hCt ⟨jCallB hts hk hM hfr hlo hlev hnb, hts _ hV.1, hts _ hV.2⟩ ⟨jblind D N0 _, hrc, fun U hU hW => ⟨rfl, by rw [hU]; exact hH, hK.warm hW⟩⟩ rfl hAs (by rw [← hlv]; exact hl.1.1) rfl (lv_room hst) hd ⟨by rw [hRc]; exact hce, by rw [hRs]; exact hsl⟩) hS hl kk
/-- invokestatic -/
theorem j_callS (C : jok X cc own n lev mc ms) {ix lev' mc' ms' nb k : Nat} {y : MethodName} {cb : ByteArray} {ret : Option FieldType} {Post : jPost} (As : List Value) {st : List Value} (hd : decode cc pc = .ok (.invokestatic ix, 3)) (hM : ML own ix y k) (hV : Cond.static y ∈ gw) (hk : Cond.code y cb nb ret ∈ gw) (hCt : Ct (jLa X) (jDa X) (jN0 X) lev' mc' ms' y cb nb ret As tt mi mr Post) (hlev : lev' < lev) (hnb : nb ≤ 11) (hAs : As.length = k) (hce : ce + mc' ≤ mc) (hsl : sl + ms' ≤ ms) (hlv : lv.length = n) (hst : (st.map fun v => v.category).sum ≤ 8)
    (kk : ∀ (v : Option Value) (tt' : jT) (mi' : jI) (mr' : jR), Post v tt' mi' mr' → J X tt' mi' mr' (ce + mc') (sl + ms') (pc + 3) lv (v.toList ++ st)) : J X tt mi mr ce sl pc lv (As.reverse ++ st) := by
  obtain ⟨p, l, e, R, s, m, args, below, meth, c0, Q, D, N0⟩ := X
  obtain ⟨hx, hb, hown, hts, hml, hlk, hK, hfr, hlo, hRc, hRs, hN0⟩ := C
  intro H locs ls hH hS hl
  exact j_after (va_runS (cc := cc) (nL := n) (Ts := gw) (own := own) ⟨hx, hb, hml, hown, hts⟩ hCt ⟨jCallB hts hk hM hfr hlo hlev hnb, hts _ hV⟩ ⟨jblind D N0 _, fun U hU hW => ⟨rfl, by rw [hU]; exact hH, hK.warm hW⟩⟩ rfl hAs (by rw [← hlv]; exact hl.1.1) rfl (lv_room hst) hd ⟨by rw [hRc]; exact hce, by rw [hRs]; exact hsl⟩) hS hl kk
/-- a constructor -/
theorem j_callI (C : jok X cc own n lev mc ms) {ix lev' mc' ms' nb k b : Nat} {y : MethodName} {cb : ByteArray} {Post : jPost} (As : List Value) {st : List Value} (hd : decode cc pc = .ok (.invokespecial ix, 3)) (hM : ML own ix y k) (hV : Cond.instanceMethod y ∈ gw) (hy : y.name = "<init>") (hk : Cond.code y cb nb none ∈ gw) (hCt : Ct (jLa X) (jDa X) (jN0 X) lev' mc' ms' y cb nb none (va_rf (some b) :: As) tt mi mr Post) (hlev : lev' < lev) (hnb : nb ≤ 11) (hAs : As.length = k) (hce : ce + mc' ≤ mc) (hsl : sl + ms' ≤ ms) (hlv : lv.length = n) (hst : (st.map fun v => v.category).sum ≤ 8)
    (kk : ∀ (v : Option Value) (tt' : jT) (mi' : jI) (mr' : jR), Post v tt' mi' mr' → J X tt' mi' mr' (ce + mc') (sl + ms') (pc + 3) lv (v.toList ++ st)) : J X tt mi mr ce sl pc lv (As.reverse ++ va_rf (some b) :: st) := by
  obtain ⟨p, l, e, R, s, m, args, below, meth, c0, Q, D, N0⟩ := X
  obtain ⟨hx, hb, hown, hts, hml, hlk, hK, hfr, hlo, hRc, hRs, hN0⟩ := C
  intro H locs ls hH hS hl
  exact j_after (va_runI (cc := cc) (nL := n) (Ts := gw) (own := own) ⟨hx, hb, hml, hown, hts⟩ hCt ⟨jCallB hts hk hM hfr hlo hlev hnb, hy, hts _ hV⟩ ⟨jblind D N0 _, fun U hU hW => ⟨rfl, by rw [hU]; exact hH, hK.warm hW⟩⟩ rfl hAs (by rw [← hlv]; exact hl.1.1) rfl (lv_room hst) hd ⟨by rw [hRc]; exact hce, by rw [hRs]; exact hsl⟩) hS hl kk
/-- a nest mate's constructor -/
theorem j_callIN (C : jok X cc own n lev mc ms) {ix lev' mc' ms' nb k b : Nat} {y : MethodName} {cb : ByteArray} {Post : jPost} (As : List Value) {st : List Value} (hd : decode cc pc = .ok (.invokespecial ix, 3)) (hM : Cond.methodLinkNest own ix y "OrderDesk" ∈ tables_1) (hB : MB y k) (hV : Cond.instanceMethod y ∈ gw) (hy : y.name = "<init>") (hk : Cond.code y cb nb none ∈ gw) (hCt : Ct (jLa X) (jDa X) (jN0 X) lev' mc' ms' y cb nb none (va_rf (some b) :: As) tt mi mr Post) (hlev : lev' < lev) (hnb : nb ≤ 11) (hAs : As.length = k) (hce : ce + mc' ≤ mc) (hsl : sl + ms' ≤ ms) (hlv : lv.length = n) (hst : (st.map fun v => v.category).sum ≤ 8)
    (kk : ∀ (v : Option Value) (tt' : jT) (mi' : jI) (mr' : jR), Post v tt' mi' mr' → J X tt' mi' mr' (ce + mc') (sl + ms') (pc + 3) lv (v.toList ++ st)) : J X tt mi mr ce sl pc lv (As.reverse ++ va_rf (some b) :: st) := by
  obtain ⟨p, l, e, R, s, m, args, below, meth, c0, Q, D, N0⟩ := X
  obtain ⟨hx, hb, hown, hts, hml, hlk, hK, hfr, hlo, hRc, hRs, hN0⟩ := C
  intro H locs ls hH hS hl
  obtain ⟨m2, m3, m4⟩ := hB
  have cw : va_CN R s args own ix y "OrderDesk" cb nb none (.code y cb nb none :: gw) ({ frames := lev', cells := mc', slots := ms', locals := 30 * lev' }) mc' ms' k := by
    refine ⟨⟨rfl, rfl, ?_, ?_, jwords hts hk, List.mem_cons_self⟩, hts _ hk, hts _ m2, m3, fun sig h => ?_, va_Nw.use rfl (hK.2.1 _ hM rfl)⟩
    · show lev' + 1 ≤ R.frames
      omega
    · show 8 + (nb + 11) + 30 * lev' ≤ R.locals
      omega
    · rw [h] at m4
      exact (Option.some.inj m4).symm
  exact j_after (va_runIN (cc := cc) (nL := n) (Ts := gw) (own := own) ⟨hx, hb, hml, hown, hts⟩ hCt ⟨cw, hy, hts _ hV⟩ ⟨jblind D N0 _, fun U hU hW => ⟨rfl, by rw [hU]; exact hH, hK.warm hW⟩⟩ rfl hAs (by rw [← hlv]; exact hl.1.1) rfl (lv_room hst) hd ⟨by rw [hRc]; exact hce, by rw [hRs]; exact hsl⟩) hS hl kk
end JR
end
section
theorem d_Desk_init_0 : decode b_Desk_init 0 = .ok (.aload_n 0, 1) := by decide +kernel
theorem d_Desk_init_1 : decode b_Desk_init 1 = .ok (.invokespecial 1, 3) := by decide +kernel
theorem d_Desk_init_4 : decode b_Desk_init 4 = .ok (.aload_n 0, 1) := by decide +kernel
theorem d_Desk_init_5 : decode b_Desk_init 5 = .ok (.new 7, 3) := by decide +kernel
theorem d_Desk_init_8 : decode b_Desk_init 8 = .ok (.dup, 1) := by decide +kernel
theorem d_Desk_init_9 : decode b_Desk_init 9 = .ok (.sipush 200, 3) := by decide +kernel
theorem d_Desk_init_12 : decode b_Desk_init 12 = .ok (.invokespecial 11, 3) := by decide +kernel
theorem d_Desk_init_15 : decode b_Desk_init 15 = .ok (.putfield 14, 3) := by decide +kernel
theorem d_Desk_init_18 : decode b_Desk_init 18 = .ok (.return_, 1) := by decide +kernel
theorem d_Desk_isPriority_0 : decode b_Desk_isPriority 0 = .ok (.iload_n 0, 1) := by decide +kernel
theorem d_Desk_isPriority_1 : decode b_Desk_isPriority 1 = .ok (.iconst 1, 1) := by decide +kernel
theorem d_Desk_isPriority_2 : decode b_Desk_isPriority 2 = .ok (.if_icmp .lt 13, 3) := by decide +kernel
theorem d_Desk_isPriority_5 : decode b_Desk_isPriority 5 = .ok (.iload_n 0, 1) := by decide +kernel
theorem d_Desk_isPriority_6 : decode b_Desk_isPriority 6 = .ok (.bipush 9, 2) := by decide +kernel
theorem d_Desk_isPriority_8 : decode b_Desk_isPriority 8 = .ok (.if_icmp .gt 7, 3) := by decide +kernel
theorem d_Desk_isPriority_11 : decode b_Desk_isPriority 11 = .ok (.iconst 1, 1) := by decide +kernel
theorem d_Desk_isPriority_12 : decode b_Desk_isPriority 12 = .ok (.goto 4, 3) := by decide +kernel
theorem d_Desk_isPriority_15 : decode b_Desk_isPriority 15 = .ok (.iconst 0, 1) := by decide +kernel
theorem d_Desk_isPriority_16 : decode b_Desk_isPriority 16 = .ok (.ireturn, 1) := by decide +kernel
theorem d_Desk_isPosition_0 : decode b_Desk_isPosition 0 = .ok (.iload_n 0, 1) := by decide +kernel
theorem d_Desk_isPosition_1 : decode b_Desk_isPosition 1 = .ok (.ifCond .lt 13, 3) := by decide +kernel
theorem d_Desk_isPosition_4 : decode b_Desk_isPosition 4 = .ok (.iload_n 0, 1) := by decide +kernel
theorem d_Desk_isPosition_5 : decode b_Desk_isPosition 5 = .ok (.ldc 18, 2) := by decide +kernel
theorem d_Desk_isPosition_7 : decode b_Desk_isPosition 7 = .ok (.if_icmp .ge 7, 3) := by decide +kernel
theorem d_Desk_isPosition_10 : decode b_Desk_isPosition 10 = .ok (.iconst 1, 1) := by decide +kernel
theorem d_Desk_isPosition_11 : decode b_Desk_isPosition 11 = .ok (.goto 4, 3) := by decide +kernel
theorem d_Desk_isPosition_14 : decode b_Desk_isPosition 14 = .ok (.iconst 0, 1) := by decide +kernel
theorem d_Desk_isPosition_15 : decode b_Desk_isPosition 15 = .ok (.ireturn, 1) := by decide +kernel
theorem d_Desk_take_0 : decode b_Desk_take 0 = .ok (.aload_n 0, 1) := by decide +kernel
theorem d_Desk_take_1 : decode b_Desk_take 1 = .ok (.getfield 14, 3) := by decide +kernel
theorem d_Desk_take_4 : decode b_Desk_take 4 = .ok (.iload_n 1, 1) := by decide +kernel
theorem d_Desk_take_5 : decode b_Desk_take 5 = .ok (.invokevirtual 19, 3) := by decide +kernel
theorem d_Desk_take_8 : decode b_Desk_take 8 = .ok (.ifCond .eq 41, 3) := by decide +kernel
theorem d_Desk_take_11 : decode b_Desk_take 11 = .ok (.aload_n 0, 1) := by decide +kernel
theorem d_Desk_take_12 : decode b_Desk_take 12 = .ok (.getfield 14, 3) := by decide +kernel
theorem d_Desk_take_15 : decode b_Desk_take 15 = .ok (.iload_n 1, 1) := by decide +kernel
theorem d_Desk_take_16 : decode b_Desk_take 16 = .ok (.invokevirtual 23, 3) := by decide +kernel
theorem d_Desk_take_19 : decode b_Desk_take 19 = .ok (.ifnonnull 30, 3) := by decide +kernel
theorem d_Desk_take_22 : decode b_Desk_take 22 = .ok (.iload_n 2, 1) := by decide +kernel
theorem d_Desk_take_23 : decode b_Desk_take 23 = .ok (.invokestatic 27, 3) := by decide +kernel
theorem d_Desk_take_26 : decode b_Desk_take 26 = .ok (.ifCond .eq 23, 3) := by decide +kernel
theorem d_Desk_take_29 : decode b_Desk_take 29 = .ok (.aload_n 0, 1) := by decide +kernel
theorem d_Desk_take_30 : decode b_Desk_take 30 = .ok (.getfield 14, 3) := by decide +kernel
theorem d_Desk_take_33 : decode b_Desk_take 33 = .ok (.getfield 30, 3) := by decide +kernel
theorem d_Desk_take_36 : decode b_Desk_take 36 = .ok (.iload_n 1, 1) := by decide +kernel
theorem d_Desk_take_37 : decode b_Desk_take 37 = .ok (.aaload, 1) := by decide +kernel
theorem d_Desk_take_38 : decode b_Desk_take 38 = .ok (.iload_n 2, 1) := by decide +kernel
theorem d_Desk_take_39 : decode b_Desk_take 39 = .ok (.invokevirtual 34, 3) := by decide +kernel
theorem d_Desk_take_42 : decode b_Desk_take 42 = .ok (.ifCond .eq 7, 3) := by decide +kernel
theorem d_Desk_take_45 : decode b_Desk_take 45 = .ok (.iconst 1, 1) := by decide +kernel
theorem d_Desk_take_46 : decode b_Desk_take 46 = .ok (.goto 4, 3) := by decide +kernel
theorem d_Desk_take_49 : decode b_Desk_take 49 = .ok (.iconst 0, 1) := by decide +kernel
theorem d_Desk_take_50 : decode b_Desk_take 50 = .ok (.ireturn, 1) := by decide +kernel
theorem d_Desk_come_0 : decode b_Desk_come 0 = .ok (.aload_n 0, 1) := by decide +kernel
theorem d_Desk_come_1 : decode b_Desk_come 1 = .ok (.getfield 14, 3) := by decide +kernel
theorem d_Desk_come_4 : decode b_Desk_come 4 = .ok (.iload_n 1, 1) := by decide +kernel
theorem d_Desk_come_5 : decode b_Desk_come 5 = .ok (.invokevirtual 19, 3) := by decide +kernel
theorem d_Desk_come_8 : decode b_Desk_come 8 = .ok (.ifCond .eq 21, 3) := by decide +kernel
theorem d_Desk_come_11 : decode b_Desk_come 11 = .ok (.aload_n 0, 1) := by decide +kernel
theorem d_Desk_come_12 : decode b_Desk_come 12 = .ok (.getfield 14, 3) := by decide +kernel
theorem d_Desk_come_15 : decode b_Desk_come 15 = .ok (.iload_n 1, 1) := by decide +kernel
theorem d_Desk_come_16 : decode b_Desk_come 16 = .ok (.invokevirtual 23, 3) := by decide +kernel
theorem d_Desk_come_19 : decode b_Desk_come 19 = .ok (.ifnonnull 10, 3) := by decide +kernel
theorem d_Desk_come_22 : decode b_Desk_come 22 = .ok (.iload_n 2, 1) := by decide +kernel
theorem d_Desk_come_23 : decode b_Desk_come 23 = .ok (.invokestatic 39, 3) := by decide +kernel
theorem d_Desk_come_26 : decode b_Desk_come 26 = .ok (.ifCond .ne 7, 3) := by decide +kernel
theorem d_Desk_come_29 : decode b_Desk_come 29 = .ok (.iconst 0, 1) := by decide +kernel
theorem d_Desk_come_30 : decode b_Desk_come 30 = .ok (.goto 20, 3) := by decide +kernel
theorem d_Desk_come_33 : decode b_Desk_come 33 = .ok (.aload_n 0, 1) := by decide +kernel
theorem d_Desk_come_34 : decode b_Desk_come 34 = .ok (.getfield 14, 3) := by decide +kernel
theorem d_Desk_come_37 : decode b_Desk_come 37 = .ok (.aload_n 0, 1) := by decide +kernel
theorem d_Desk_come_38 : decode b_Desk_come 38 = .ok (.getfield 14, 3) := by decide +kernel
theorem d_Desk_come_41 : decode b_Desk_come 41 = .ok (.getfield 30, 3) := by decide +kernel
theorem d_Desk_come_44 : decode b_Desk_come 44 = .ok (.iload_n 1, 1) := by decide +kernel
theorem d_Desk_come_45 : decode b_Desk_come 45 = .ok (.aaload, 1) := by decide +kernel
theorem d_Desk_come_46 : decode b_Desk_come 46 = .ok (.iload_n 2, 1) := by decide +kernel
theorem d_Desk_come_47 : decode b_Desk_come 47 = .ok (.invokevirtual 42, 3) := by decide +kernel
theorem d_Desk_come_50 : decode b_Desk_come 50 = .ok (.ireturn, 1) := by decide +kernel
theorem d_Desk_leave_0 : decode b_Desk_leave 0 = .ok (.aload_n 0, 1) := by decide +kernel
theorem d_Desk_leave_1 : decode b_Desk_leave 1 = .ok (.getfield 14, 3) := by decide +kernel
theorem d_Desk_leave_4 : decode b_Desk_leave 4 = .ok (.iload_n 1, 1) := by decide +kernel
theorem d_Desk_leave_5 : decode b_Desk_leave 5 = .ok (.invokevirtual 23, 3) := by decide +kernel
theorem d_Desk_leave_8 : decode b_Desk_leave 8 = .ok (.astore_n 2, 1) := by decide +kernel
theorem d_Desk_leave_9 : decode b_Desk_leave 9 = .ok (.aload_n 2, 1) := by decide +kernel
theorem d_Desk_leave_10 : decode b_Desk_leave 10 = .ok (.ifnonnull 5, 3) := by decide +kernel
theorem d_Desk_leave_13 : decode b_Desk_leave 13 = .ok (.iconst 0, 1) := by decide +kernel
theorem d_Desk_leave_14 : decode b_Desk_leave 14 = .ok (.ireturn, 1) := by decide +kernel
theorem d_Desk_leave_15 : decode b_Desk_leave 15 = .ok (.aload_n 0, 1) := by decide +kernel
theorem d_Desk_leave_16 : decode b_Desk_leave 16 = .ok (.getfield 14, 3) := by decide +kernel
theorem d_Desk_leave_19 : decode b_Desk_leave 19 = .ok (.aload_n 2, 1) := by decide +kernel
theorem d_Desk_leave_20 : decode b_Desk_leave 20 = .ok (.invokevirtual 46, 3) := by decide +kernel
theorem d_Desk_leave_23 : decode b_Desk_leave 23 = .ok (.aload_n 2, 1) := by decide +kernel
theorem d_Desk_leave_24 : decode b_Desk_leave 24 = .ok (.iconst 0, 1) := by decide +kernel
theorem d_Desk_leave_25 : decode b_Desk_leave 25 = .ok (.putfield 50, 3) := by decide +kernel
theorem d_Desk_leave_28 : decode b_Desk_leave 28 = .ok (.iconst 1, 1) := by decide +kernel
theorem d_Desk_leave_29 : decode b_Desk_leave 29 = .ok (.ireturn, 1) := by decide +kernel
theorem d_Desk_again_0 : decode b_Desk_again 0 = .ok (.aload_n 0, 1) := by decide +kernel
theorem d_Desk_again_1 : decode b_Desk_again 1 = .ok (.getfield 14, 3) := by decide +kernel
theorem d_Desk_again_4 : decode b_Desk_again 4 = .ok (.iload_n 1, 1) := by decide +kernel
theorem d_Desk_again_5 : decode b_Desk_again 5 = .ok (.invokevirtual 23, 3) := by decide +kernel
theorem d_Desk_again_8 : decode b_Desk_again 8 = .ok (.astore_n 3, 1) := by decide +kernel
theorem d_Desk_again_9 : decode b_Desk_again 9 = .ok (.aload_n 3, 1) := by decide +kernel
theorem d_Desk_again_10 : decode b_Desk_again 10 = .ok (.ifnull 10, 3) := by decide +kernel
theorem d_Desk_again_13 : decode b_Desk_again 13 = .ok (.iload_n 2, 1) := by decide +kernel
theorem d_Desk_again_14 : decode b_Desk_again 14 = .ok (.invokestatic 39, 3) := by decide +kernel
theorem d_Desk_again_17 : decode b_Desk_again 17 = .ok (.ifCond .ne 5, 3) := by decide +kernel
theorem d_Desk_again_20 : decode b_Desk_again 20 = .ok (.iconst 0, 1) := by decide +kernel
theorem d_Desk_again_21 : decode b_Desk_again 21 = .ok (.ireturn, 1) := by decide +kernel
theorem d_Desk_again_22 : decode b_Desk_again 22 = .ok (.aload_n 0, 1) := by decide +kernel
theorem d_Desk_again_23 : decode b_Desk_again 23 = .ok (.getfield 14, 3) := by decide +kernel
theorem d_Desk_again_26 : decode b_Desk_again 26 = .ok (.aload_n 3, 1) := by decide +kernel
theorem d_Desk_again_27 : decode b_Desk_again 27 = .ok (.invokevirtual 46, 3) := by decide +kernel
theorem d_Desk_again_30 : decode b_Desk_again 30 = .ok (.aload_n 0, 1) := by decide +kernel
theorem d_Desk_again_31 : decode b_Desk_again 31 = .ok (.getfield 14, 3) := by decide +kernel
theorem d_Desk_again_34 : decode b_Desk_again 34 = .ok (.aload_n 3, 1) := by decide +kernel
theorem d_Desk_again_35 : decode b_Desk_again 35 = .ok (.iload_n 2, 1) := by decide +kernel
theorem d_Desk_again_36 : decode b_Desk_again 36 = .ok (.invokevirtual 42, 3) := by decide +kernel
theorem d_Desk_again_39 : decode b_Desk_again 39 = .ok (.ireturn, 1) := by decide +kernel
theorem d_Desk_join_0 : decode b_Desk_join 0 = .ok (.aload_n 0, 1) := by decide +kernel
theorem d_Desk_join_1 : decode b_Desk_join 1 = .ok (.getfield 14, 3) := by decide +kernel
theorem d_Desk_join_4 : decode b_Desk_join 4 = .ok (.iload_n 1, 1) := by decide +kernel
theorem d_Desk_join_5 : decode b_Desk_join 5 = .ok (.invokevirtual 23, 3) := by decide +kernel
theorem d_Desk_join_8 : decode b_Desk_join 8 = .ok (.astore_n 3, 1) := by decide +kernel
theorem d_Desk_join_9 : decode b_Desk_join 9 = .ok (.aload_n 3, 1) := by decide +kernel
theorem d_Desk_join_10 : decode b_Desk_join 10 = .ok (.ifnull 26, 3) := by decide +kernel
theorem d_Desk_join_13 : decode b_Desk_join 13 = .ok (.iload_n 2, 1) := by decide +kernel
theorem d_Desk_join_14 : decode b_Desk_join 14 = .ok (.invokestatic 27, 3) := by decide +kernel
theorem d_Desk_join_17 : decode b_Desk_join 17 = .ok (.ifCond .eq 19, 3) := by decide +kernel
theorem d_Desk_join_20 : decode b_Desk_join 20 = .ok (.aload_n 0, 1) := by decide +kernel
theorem d_Desk_join_21 : decode b_Desk_join 21 = .ok (.getfield 14, 3) := by decide +kernel
theorem d_Desk_join_24 : decode b_Desk_join 24 = .ok (.aload_n 3, 1) := by decide +kernel
theorem d_Desk_join_25 : decode b_Desk_join 25 = .ok (.iload_n 2, 1) := by decide +kernel
theorem d_Desk_join_26 : decode b_Desk_join 26 = .ok (.invokevirtual 54, 3) := by decide +kernel
theorem d_Desk_join_29 : decode b_Desk_join 29 = .ok (.ifCond .eq 7, 3) := by decide +kernel
theorem d_Desk_join_32 : decode b_Desk_join 32 = .ok (.iconst 1, 1) := by decide +kernel
theorem d_Desk_join_33 : decode b_Desk_join 33 = .ok (.goto 4, 3) := by decide +kernel
theorem d_Desk_join_36 : decode b_Desk_join 36 = .ok (.iconst 0, 1) := by decide +kernel
theorem d_Desk_join_37 : decode b_Desk_join 37 = .ok (.ireturn, 1) := by decide +kernel
theorem d_Desk_part_0 : decode b_Desk_part 0 = .ok (.aload_n 0, 1) := by decide +kernel
theorem d_Desk_part_1 : decode b_Desk_part 1 = .ok (.getfield 14, 3) := by decide +kernel
theorem d_Desk_part_4 : decode b_Desk_part 4 = .ok (.iload_n 1, 1) := by decide +kernel
theorem d_Desk_part_5 : decode b_Desk_part 5 = .ok (.invokevirtual 23, 3) := by decide +kernel
theorem d_Desk_part_8 : decode b_Desk_part 8 = .ok (.astore_n 3, 1) := by decide +kernel
theorem d_Desk_part_9 : decode b_Desk_part 9 = .ok (.aload_n 3, 1) := by decide +kernel
theorem d_Desk_part_10 : decode b_Desk_part 10 = .ok (.ifnonnull 7, 3) := by decide +kernel
theorem d_Desk_part_13 : decode b_Desk_part 13 = .ok (.aconst_null, 1) := by decide +kernel
theorem d_Desk_part_14 : decode b_Desk_part 14 = .ok (.goto 8, 3) := by decide +kernel
theorem d_Desk_part_17 : decode b_Desk_part 17 = .ok (.aload_n 3, 1) := by decide +kernel
theorem d_Desk_part_18 : decode b_Desk_part 18 = .ok (.iload_n 2, 1) := by decide +kernel
theorem d_Desk_part_19 : decode b_Desk_part 19 = .ok (.invokevirtual 58, 3) := by decide +kernel
theorem d_Desk_part_22 : decode b_Desk_part 22 = .ok (.astore 4, 2) := by decide +kernel
theorem d_Desk_part_24 : decode b_Desk_part 24 = .ok (.aload 4, 2) := by decide +kernel
theorem d_Desk_part_26 : decode b_Desk_part 26 = .ok (.ifnonnull 5, 3) := by decide +kernel
theorem d_Desk_part_29 : decode b_Desk_part 29 = .ok (.iconst 0, 1) := by decide +kernel
theorem d_Desk_part_30 : decode b_Desk_part 30 = .ok (.ireturn, 1) := by decide +kernel
theorem d_Desk_part_31 : decode b_Desk_part 31 = .ok (.aload_n 0, 1) := by decide +kernel
theorem d_Desk_part_32 : decode b_Desk_part 32 = .ok (.getfield 14, 3) := by decide +kernel
theorem d_Desk_part_35 : decode b_Desk_part 35 = .ok (.aload_n 3, 1) := by decide +kernel
theorem d_Desk_part_36 : decode b_Desk_part 36 = .ok (.aload 4, 2) := by decide +kernel
theorem d_Desk_part_38 : decode b_Desk_part 38 = .ok (.invokevirtual 62, 3) := by decide +kernel
theorem d_Desk_part_41 : decode b_Desk_part 41 = .ok (.iconst 1, 1) := by decide +kernel
theorem d_Desk_part_42 : decode b_Desk_part 42 = .ok (.ireturn, 1) := by decide +kernel
theorem d_Desk_heads_0 : decode b_Desk_heads 0 = .ok (.aload_n 0, 1) := by decide +kernel
theorem d_Desk_heads_1 : decode b_Desk_heads 1 = .ok (.getfield 14, 3) := by decide +kernel
theorem d_Desk_heads_4 : decode b_Desk_heads 4 = .ok (.iload_n 1, 1) := by decide +kernel
theorem d_Desk_heads_5 : decode b_Desk_heads 5 = .ok (.invokevirtual 23, 3) := by decide +kernel
theorem d_Desk_heads_8 : decode b_Desk_heads 8 = .ok (.ifnull 26, 3) := by decide +kernel
theorem d_Desk_heads_11 : decode b_Desk_heads 11 = .ok (.aload_n 0, 1) := by decide +kernel
theorem d_Desk_heads_12 : decode b_Desk_heads 12 = .ok (.getfield 14, 3) := by decide +kernel
theorem d_Desk_heads_15 : decode b_Desk_heads 15 = .ok (.aload_n 0, 1) := by decide +kernel
theorem d_Desk_heads_16 : decode b_Desk_heads 16 = .ok (.getfield 14, 3) := by decide +kernel
theorem d_Desk_heads_19 : decode b_Desk_heads 19 = .ok (.getfield 30, 3) := by decide +kernel
theorem d_Desk_heads_22 : decode b_Desk_heads 22 = .ok (.iload_n 1, 1) := by decide +kernel
theorem d_Desk_heads_23 : decode b_Desk_heads 23 = .ok (.aaload, 1) := by decide +kernel
theorem d_Desk_heads_24 : decode b_Desk_heads 24 = .ok (.invokevirtual 66, 3) := by decide +kernel
theorem d_Desk_heads_27 : decode b_Desk_heads 27 = .ok (.ifCond .eq 7, 3) := by decide +kernel
theorem d_Desk_heads_30 : decode b_Desk_heads 30 = .ok (.iconst 1, 1) := by decide +kernel
theorem d_Desk_heads_31 : decode b_Desk_heads 31 = .ok (.goto 4, 3) := by decide +kernel
theorem d_Desk_heads_34 : decode b_Desk_heads 34 = .ok (.iconst 0, 1) := by decide +kernel
theorem d_Desk_heads_35 : decode b_Desk_heads 35 = .ok (.ireturn, 1) := by decide +kernel
theorem d_Desk_before_0 : decode b_Desk_before 0 = .ok (.aload_n 0, 1) := by decide +kernel
theorem d_Desk_before_1 : decode b_Desk_before 1 = .ok (.getfield 14, 3) := by decide +kernel
theorem d_Desk_before_4 : decode b_Desk_before 4 = .ok (.iload_n 1, 1) := by decide +kernel
theorem d_Desk_before_5 : decode b_Desk_before 5 = .ok (.invokevirtual 23, 3) := by decide +kernel
theorem d_Desk_before_8 : decode b_Desk_before 8 = .ok (.astore_n 3, 1) := by decide +kernel
theorem d_Desk_before_9 : decode b_Desk_before 9 = .ok (.aload_n 0, 1) := by decide +kernel
theorem d_Desk_before_10 : decode b_Desk_before 10 = .ok (.getfield 14, 3) := by decide +kernel
theorem d_Desk_before_13 : decode b_Desk_before 13 = .ok (.iload_n 2, 1) := by decide +kernel
theorem d_Desk_before_14 : decode b_Desk_before 14 = .ok (.invokevirtual 23, 3) := by decide +kernel
theorem d_Desk_before_17 : decode b_Desk_before 17 = .ok (.astore 4, 2) := by decide +kernel
theorem d_Desk_before_19 : decode b_Desk_before 19 = .ok (.aload_n 3, 1) := by decide +kernel
theorem d_Desk_before_20 : decode b_Desk_before 20 = .ok (.ifnull 21, 3) := by decide +kernel
theorem d_Desk_before_23 : decode b_Desk_before 23 = .ok (.aload 4, 2) := by decide +kernel
theorem d_Desk_before_25 : decode b_Desk_before 25 = .ok (.ifnull 16, 3) := by decide +kernel
theorem d_Desk_before_28 : decode b_Desk_before 28 = .ok (.aload_n 3, 1) := by decide +kernel
theorem d_Desk_before_29 : decode b_Desk_before 29 = .ok (.aload 4, 2) := by decide +kernel
theorem d_Desk_before_31 : decode b_Desk_before 31 = .ok (.invokevirtual 70, 3) := by decide +kernel
theorem d_Desk_before_34 : decode b_Desk_before 34 = .ok (.ifCond .eq 7, 3) := by decide +kernel
theorem d_Desk_before_37 : decode b_Desk_before 37 = .ok (.iconst 1, 1) := by decide +kernel
theorem d_Desk_before_38 : decode b_Desk_before 38 = .ok (.goto 4, 3) := by decide +kernel
theorem d_Desk_before_41 : decode b_Desk_before 41 = .ok (.iconst 0, 1) := by decide +kernel
theorem d_Desk_before_42 : decode b_Desk_before 42 = .ok (.ireturn, 1) := by decide +kernel
theorem d_Desk_first_0 : decode b_Desk_first 0 = .ok (.aload_n 0, 1) := by decide +kernel
theorem d_Desk_first_1 : decode b_Desk_first 1 = .ok (.getfield 14, 3) := by decide +kernel
theorem d_Desk_first_4 : decode b_Desk_first 4 = .ok (.getfield 73, 3) := by decide +kernel
theorem d_Desk_first_7 : decode b_Desk_first 7 = .ok (.invokestatic 77, 3) := by decide +kernel
theorem d_Desk_first_10 : decode b_Desk_first 10 = .ok (.ireturn, 1) := by decide +kernel
theorem d_Desk_next_0 : decode b_Desk_next 0 = .ok (.aload_n 0, 1) := by decide +kernel
theorem d_Desk_next_1 : decode b_Desk_next 1 = .ok (.getfield 14, 3) := by decide +kernel
theorem d_Desk_next_4 : decode b_Desk_next 4 = .ok (.iload_n 1, 1) := by decide +kernel
theorem d_Desk_next_5 : decode b_Desk_next 5 = .ok (.invokevirtual 23, 3) := by decide +kernel
theorem d_Desk_next_8 : decode b_Desk_next 8 = .ok (.astore_n 2, 1) := by decide +kernel
theorem d_Desk_next_9 : decode b_Desk_next 9 = .ok (.aload_n 2, 1) := by decide +kernel
theorem d_Desk_next_10 : decode b_Desk_next 10 = .ok (.ifnonnull 7, 3) := by decide +kernel
theorem d_Desk_next_13 : decode b_Desk_next 13 = .ok (.iconst (-1), 1) := by decide +kernel
theorem d_Desk_next_14 : decode b_Desk_next 14 = .ok (.goto 10, 3) := by decide +kernel
theorem d_Desk_next_17 : decode b_Desk_next 17 = .ok (.aload_n 2, 1) := by decide +kernel
theorem d_Desk_next_18 : decode b_Desk_next 18 = .ok (.getfield 81, 3) := by decide +kernel
theorem d_Desk_next_21 : decode b_Desk_next 21 = .ok (.invokestatic 77, 3) := by decide +kernel
theorem d_Desk_next_24 : decode b_Desk_next 24 = .ok (.ireturn, 1) := by decide +kernel
theorem d_Desk_line_0 : decode b_Desk_line 0 = .ok (.iload_n 1, 1) := by decide +kernel
theorem d_Desk_line_1 : decode b_Desk_line 1 = .ok (.invokestatic 27, 3) := by decide +kernel
theorem d_Desk_line_4 : decode b_Desk_line 4 = .ok (.ifCond .eq 17, 3) := by decide +kernel
theorem d_Desk_line_7 : decode b_Desk_line 7 = .ok (.aload_n 0, 1) := by decide +kernel
theorem d_Desk_line_8 : decode b_Desk_line 8 = .ok (.getfield 14, 3) := by decide +kernel
theorem d_Desk_line_11 : decode b_Desk_line 11 = .ok (.getfield 84, 3) := by decide +kernel
theorem d_Desk_line_14 : decode b_Desk_line 14 = .ok (.iload_n 1, 1) := by decide +kernel
theorem d_Desk_line_15 : decode b_Desk_line 15 = .ok (.invokevirtual 88, 3) := by decide +kernel
theorem d_Desk_line_18 : decode b_Desk_line 18 = .ok (.goto 4, 3) := by decide +kernel
theorem d_Desk_line_21 : decode b_Desk_line 21 = .ok (.aconst_null, 1) := by decide +kernel
theorem d_Desk_line_22 : decode b_Desk_line 22 = .ok (.areturn, 1) := by decide +kernel
theorem d_Desk_head_0 : decode b_Desk_head 0 = .ok (.aload_n 0, 1) := by decide +kernel
theorem d_Desk_head_1 : decode b_Desk_head 1 = .ok (.iload_n 1, 1) := by decide +kernel
theorem d_Desk_head_2 : decode b_Desk_head 2 = .ok (.invokevirtual 94, 3) := by decide +kernel
theorem d_Desk_head_5 : decode b_Desk_head 5 = .ok (.astore_n 2, 1) := by decide +kernel
theorem d_Desk_head_6 : decode b_Desk_head 6 = .ok (.aload_n 2, 1) := by decide +kernel
theorem d_Desk_head_7 : decode b_Desk_head 7 = .ok (.ifnonnull 7, 3) := by decide +kernel
theorem d_Desk_head_10 : decode b_Desk_head 10 = .ok (.iconst (-1), 1) := by decide +kernel
theorem d_Desk_head_11 : decode b_Desk_head 11 = .ok (.goto 10, 3) := by decide +kernel
theorem d_Desk_head_14 : decode b_Desk_head 14 = .ok (.aload_n 2, 1) := by decide +kernel
theorem d_Desk_head_15 : decode b_Desk_head 15 = .ok (.getfield 97, 3) := by decide +kernel
theorem d_Desk_head_18 : decode b_Desk_head 18 = .ok (.invokestatic 102, 3) := by decide +kernel
theorem d_Desk_head_21 : decode b_Desk_head 21 = .ok (.ireturn, 1) := by decide +kernel
theorem d_Desk_last_0 : decode b_Desk_last 0 = .ok (.aload_n 0, 1) := by decide +kernel
theorem d_Desk_last_1 : decode b_Desk_last 1 = .ok (.iload_n 1, 1) := by decide +kernel
theorem d_Desk_last_2 : decode b_Desk_last 2 = .ok (.invokevirtual 94, 3) := by decide +kernel
theorem d_Desk_last_5 : decode b_Desk_last 5 = .ok (.astore_n 2, 1) := by decide +kernel
theorem d_Desk_last_6 : decode b_Desk_last 6 = .ok (.aload_n 2, 1) := by decide +kernel
theorem d_Desk_last_7 : decode b_Desk_last 7 = .ok (.ifnonnull 7, 3) := by decide +kernel
theorem d_Desk_last_10 : decode b_Desk_last 10 = .ok (.iconst (-1), 1) := by decide +kernel
theorem d_Desk_last_11 : decode b_Desk_last 11 = .ok (.goto 10, 3) := by decide +kernel
theorem d_Desk_last_14 : decode b_Desk_last 14 = .ok (.aload_n 2, 1) := by decide +kernel
theorem d_Desk_last_15 : decode b_Desk_last 15 = .ok (.getfield 105, 3) := by decide +kernel
theorem d_Desk_last_18 : decode b_Desk_last 18 = .ok (.invokestatic 102, 3) := by decide +kernel
theorem d_Desk_last_21 : decode b_Desk_last 21 = .ok (.ireturn, 1) := by decide +kernel
theorem d_Desk_behind_0 : decode b_Desk_behind 0 = .ok (.aload_n 0, 1) := by decide +kernel
theorem d_Desk_behind_1 : decode b_Desk_behind 1 = .ok (.getfield 14, 3) := by decide +kernel
theorem d_Desk_behind_4 : decode b_Desk_behind 4 = .ok (.iload_n 1, 1) := by decide +kernel
theorem d_Desk_behind_5 : decode b_Desk_behind 5 = .ok (.invokevirtual 23, 3) := by decide +kernel
theorem d_Desk_behind_8 : decode b_Desk_behind 8 = .ok (.astore_n 3, 1) := by decide +kernel
theorem d_Desk_behind_9 : decode b_Desk_behind 9 = .ok (.aload_n 3, 1) := by decide +kernel
theorem d_Desk_behind_10 : decode b_Desk_behind 10 = .ok (.ifnonnull 7, 3) := by decide +kernel
theorem d_Desk_behind_13 : decode b_Desk_behind 13 = .ok (.aconst_null, 1) := by decide +kernel
theorem d_Desk_behind_14 : decode b_Desk_behind 14 = .ok (.goto 8, 3) := by decide +kernel
theorem d_Desk_behind_17 : decode b_Desk_behind 17 = .ok (.aload_n 3, 1) := by decide +kernel
theorem d_Desk_behind_18 : decode b_Desk_behind 18 = .ok (.iload_n 2, 1) := by decide +kernel
theorem d_Desk_behind_19 : decode b_Desk_behind 19 = .ok (.invokevirtual 58, 3) := by decide +kernel
theorem d_Desk_behind_22 : decode b_Desk_behind 22 = .ok (.astore 4, 2) := by decide +kernel
theorem d_Desk_behind_24 : decode b_Desk_behind 24 = .ok (.aload 4, 2) := by decide +kernel
theorem d_Desk_behind_26 : decode b_Desk_behind 26 = .ok (.ifnonnull 7, 3) := by decide +kernel
theorem d_Desk_behind_29 : decode b_Desk_behind 29 = .ok (.iconst (-1), 1) := by decide +kernel
theorem d_Desk_behind_30 : decode b_Desk_behind 30 = .ok (.goto 11, 3) := by decide +kernel
theorem d_Desk_behind_33 : decode b_Desk_behind 33 = .ok (.aload 4, 2) := by decide +kernel
theorem d_Desk_behind_35 : decode b_Desk_behind 35 = .ok (.getfield 108, 3) := by decide +kernel
theorem d_Desk_behind_38 : decode b_Desk_behind 38 = .ok (.invokestatic 102, 3) := by decide +kernel
theorem d_Desk_behind_41 : decode b_Desk_behind 41 = .ok (.ireturn, 1) := by decide +kernel
theorem d_Desk_size_0 : decode b_Desk_size 0 = .ok (.iload_n 1, 1) := by decide +kernel
theorem d_Desk_size_1 : decode b_Desk_size 1 = .ok (.iconst (-1), 1) := by decide +kernel
theorem d_Desk_size_2 : decode b_Desk_size 2 = .ok (.if_icmp .ne 11, 3) := by decide +kernel
theorem d_Desk_size_5 : decode b_Desk_size 5 = .ok (.aload_n 0, 1) := by decide +kernel
theorem d_Desk_size_6 : decode b_Desk_size 6 = .ok (.getfield 14, 3) := by decide +kernel
theorem d_Desk_size_9 : decode b_Desk_size 9 = .ok (.getfield 112, 3) := by decide +kernel
theorem d_Desk_size_12 : decode b_Desk_size 12 = .ok (.ireturn, 1) := by decide +kernel
theorem d_Desk_size_13 : decode b_Desk_size 13 = .ok (.aload_n 0, 1) := by decide +kernel
theorem d_Desk_size_14 : decode b_Desk_size 14 = .ok (.iload_n 1, 1) := by decide +kernel
theorem d_Desk_size_15 : decode b_Desk_size 15 = .ok (.invokevirtual 94, 3) := by decide +kernel
theorem d_Desk_size_18 : decode b_Desk_size 18 = .ok (.astore_n 2, 1) := by decide +kernel
theorem d_Desk_size_19 : decode b_Desk_size 19 = .ok (.aload_n 2, 1) := by decide +kernel
theorem d_Desk_size_20 : decode b_Desk_size 20 = .ok (.ifnonnull 18, 3) := by decide +kernel
theorem d_Desk_size_23 : decode b_Desk_size 23 = .ok (.iload_n 1, 1) := by decide +kernel
theorem d_Desk_size_24 : decode b_Desk_size 24 = .ok (.invokestatic 27, 3) := by decide +kernel
theorem d_Desk_size_27 : decode b_Desk_size 27 = .ok (.ifCond .eq 7, 3) := by decide +kernel
theorem d_Desk_size_30 : decode b_Desk_size 30 = .ok (.iconst 0, 1) := by decide +kernel
theorem d_Desk_size_31 : decode b_Desk_size 31 = .ok (.goto 11, 3) := by decide +kernel
theorem d_Desk_size_34 : decode b_Desk_size 34 = .ok (.iconst (-1), 1) := by decide +kernel
theorem d_Desk_size_35 : decode b_Desk_size 35 = .ok (.goto 7, 3) := by decide +kernel
theorem d_Desk_size_38 : decode b_Desk_size 38 = .ok (.aload_n 2, 1) := by decide +kernel
theorem d_Desk_size_39 : decode b_Desk_size 39 = .ok (.getfield 113, 3) := by decide +kernel
theorem d_Desk_size_42 : decode b_Desk_size 42 = .ok (.ireturn, 1) := by decide +kernel
theorem d_Desk_look_0 : decode b_Desk_look 0 = .ok (.aload_n 0, 1) := by decide +kernel
theorem d_Desk_look_1 : decode b_Desk_look 1 = .ok (.getfield 14, 3) := by decide +kernel
theorem d_Desk_look_4 : decode b_Desk_look 4 = .ok (.iload_n 1, 1) := by decide +kernel
theorem d_Desk_look_5 : decode b_Desk_look 5 = .ok (.invokevirtual 19, 3) := by decide +kernel
theorem d_Desk_look_8 : decode b_Desk_look 8 = .ok (.ifCond .eq 7, 3) := by decide +kernel
theorem d_Desk_look_11 : decode b_Desk_look 11 = .ok (.iload_n 2, 1) := by decide +kernel
theorem d_Desk_look_12 : decode b_Desk_look 12 = .ok (.ifCond .ge 5, 3) := by decide +kernel
theorem d_Desk_look_15 : decode b_Desk_look 15 = .ok (.iconst (-1), 1) := by decide +kernel
theorem d_Desk_look_16 : decode b_Desk_look 16 = .ok (.ireturn, 1) := by decide +kernel
theorem d_Desk_look_17 : decode b_Desk_look 17 = .ok (.aload_n 0, 1) := by decide +kernel
theorem d_Desk_look_18 : decode b_Desk_look 18 = .ok (.getfield 14, 3) := by decide +kernel
theorem d_Desk_look_21 : decode b_Desk_look 21 = .ok (.getfield 30, 3) := by decide +kernel
theorem d_Desk_look_24 : decode b_Desk_look 24 = .ok (.iload_n 1, 1) := by decide +kernel
theorem d_Desk_look_25 : decode b_Desk_look 25 = .ok (.aaload, 1) := by decide +kernel
theorem d_Desk_look_26 : decode b_Desk_look 26 = .ok (.astore_n 3, 1) := by decide +kernel
theorem d_Desk_look_27 : decode b_Desk_look 27 = .ok (.iload_n 2, 1) := by decide +kernel
theorem d_Desk_look_28 : decode b_Desk_look 28 = .ok (.tableswitch 82 0 3 #[32, 45, 61, 77], 32) := by decide +kernel
theorem d_Desk_look_60 : decode b_Desk_look 60 = .ok (.aload_n 3, 1) := by decide +kernel
theorem d_Desk_look_61 : decode b_Desk_look 61 = .ok (.getfield 114, 3) := by decide +kernel
theorem d_Desk_look_64 : decode b_Desk_look 64 = .ok (.ifCond .eq 7, 3) := by decide +kernel
theorem d_Desk_look_67 : decode b_Desk_look 67 = .ok (.iconst 1, 1) := by decide +kernel
theorem d_Desk_look_68 : decode b_Desk_look 68 = .ok (.goto 4, 3) := by decide +kernel
theorem d_Desk_look_71 : decode b_Desk_look 71 = .ok (.iconst 0, 1) := by decide +kernel
theorem d_Desk_look_72 : decode b_Desk_look 72 = .ok (.ireturn, 1) := by decide +kernel
theorem d_Desk_look_73 : decode b_Desk_look 73 = .ok (.aload_n 3, 1) := by decide +kernel
theorem d_Desk_look_74 : decode b_Desk_look 74 = .ok (.getfield 114, 3) := by decide +kernel
theorem d_Desk_look_77 : decode b_Desk_look 77 = .ok (.ifCond .eq 10, 3) := by decide +kernel
theorem d_Desk_look_80 : decode b_Desk_look 80 = .ok (.aload_n 3, 1) := by decide +kernel
theorem d_Desk_look_81 : decode b_Desk_look 81 = .ok (.getfield 117, 3) := by decide +kernel
theorem d_Desk_look_84 : decode b_Desk_look 84 = .ok (.goto 4, 3) := by decide +kernel
theorem d_Desk_look_87 : decode b_Desk_look 87 = .ok (.iconst 0, 1) := by decide +kernel
theorem d_Desk_look_88 : decode b_Desk_look 88 = .ok (.ireturn, 1) := by decide +kernel
theorem d_Desk_look_89 : decode b_Desk_look 89 = .ok (.aload_n 3, 1) := by decide +kernel
theorem d_Desk_look_90 : decode b_Desk_look 90 = .ok (.getfield 114, 3) := by decide +kernel
theorem d_Desk_look_93 : decode b_Desk_look 93 = .ok (.ifCond .eq 10, 3) := by decide +kernel
theorem d_Desk_look_96 : decode b_Desk_look 96 = .ok (.aload_n 3, 1) := by decide +kernel
theorem d_Desk_look_97 : decode b_Desk_look 97 = .ok (.getfield 120, 3) := by decide +kernel
theorem d_Desk_look_100 : decode b_Desk_look 100 = .ok (.goto 4, 3) := by decide +kernel
theorem d_Desk_look_103 : decode b_Desk_look 103 = .ok (.iconst 0, 1) := by decide +kernel
theorem d_Desk_look_104 : decode b_Desk_look 104 = .ok (.ireturn, 1) := by decide +kernel
theorem d_Desk_look_105 : decode b_Desk_look 105 = .ok (.aload_n 3, 1) := by decide +kernel
theorem d_Desk_look_106 : decode b_Desk_look 106 = .ok (.getfield 50, 3) := by decide +kernel
theorem d_Desk_look_109 : decode b_Desk_look 109 = .ok (.ireturn, 1) := by decide +kernel
theorem d_Desk_look_110 : decode b_Desk_look 110 = .ok (.iload_n 2, 1) := by decide +kernel
theorem d_Desk_look_111 : decode b_Desk_look 111 = .ok (.iconst 4, 1) := by decide +kernel
theorem d_Desk_look_112 : decode b_Desk_look 112 = .ok (.isub, 1) := by decide +kernel
theorem d_Desk_look_113 : decode b_Desk_look 113 = .ok (.aload_n 3, 1) := by decide +kernel
theorem d_Desk_look_114 : decode b_Desk_look 114 = .ok (.getfield 50, 3) := by decide +kernel
theorem d_Desk_look_117 : decode b_Desk_look 117 = .ok (.if_icmp .ge 17, 3) := by decide +kernel
theorem d_Desk_look_120 : decode b_Desk_look 120 = .ok (.aload_n 3, 1) := by decide +kernel
theorem d_Desk_look_121 : decode b_Desk_look 121 = .ok (.getfield 123, 3) := by decide +kernel
theorem d_Desk_look_124 : decode b_Desk_look 124 = .ok (.iload_n 2, 1) := by decide +kernel
theorem d_Desk_look_125 : decode b_Desk_look 125 = .ok (.iconst 4, 1) := by decide +kernel
theorem d_Desk_look_126 : decode b_Desk_look 126 = .ok (.isub, 1) := by decide +kernel
theorem d_Desk_look_127 : decode b_Desk_look 127 = .ok (.aaload, 1) := by decide +kernel
theorem d_Desk_look_128 : decode b_Desk_look 128 = .ok (.getfield 127, 3) := by decide +kernel
theorem d_Desk_look_131 : decode b_Desk_look 131 = .ok (.goto 4, 3) := by decide +kernel
theorem d_Desk_look_134 : decode b_Desk_look 134 = .ok (.iconst (-1), 1) := by decide +kernel
theorem d_Desk_look_135 : decode b_Desk_look 135 = .ok (.ireturn, 1) := by decide +kernel
theorem d_Desk_lines_0 : decode b_Desk_lines 0 = .ok (.aload_n 0, 1) := by decide +kernel
theorem d_Desk_lines_1 : decode b_Desk_lines 1 = .ok (.getfield 14, 3) := by decide +kernel
theorem d_Desk_lines_4 : decode b_Desk_lines 4 = .ok (.getfield 84, 3) := by decide +kernel
theorem d_Desk_lines_7 : decode b_Desk_lines 7 = .ok (.getfield 130, 3) := by decide +kernel
theorem d_Desk_lines_10 : decode b_Desk_lines 10 = .ok (.ireturn, 1) := by decide +kernel
theorem d_Model_init_0 : decode b_Model_init 0 = .ok (.aload_n 0, 1) := by decide +kernel
theorem d_Model_init_1 : decode b_Model_init 1 = .ok (.invokespecial 1, 3) := by decide +kernel
theorem d_Model_init_4 : decode b_Model_init 4 = .ok (.aload_n 0, 1) := by decide +kernel
theorem d_Model_init_5 : decode b_Model_init 5 = .ok (.sipush 200, 3) := by decide +kernel
theorem d_Model_init_8 : decode b_Model_init 8 = .ok (.newarray .boolean, 2) := by decide +kernel
theorem d_Model_init_10 : decode b_Model_init 10 = .ok (.putfield 7, 3) := by decide +kernel
theorem d_Model_init_13 : decode b_Model_init 13 = .ok (.aload_n 0, 1) := by decide +kernel
theorem d_Model_init_14 : decode b_Model_init 14 = .ok (.sipush 200, 3) := by decide +kernel
theorem d_Model_init_17 : decode b_Model_init 17 = .ok (.newarray .int, 2) := by decide +kernel
theorem d_Model_init_19 : decode b_Model_init 19 = .ok (.putfield 13, 3) := by decide +kernel
theorem d_Model_init_22 : decode b_Model_init 22 = .ok (.aload_n 0, 1) := by decide +kernel
theorem d_Model_init_23 : decode b_Model_init 23 = .ok (.sipush 200, 3) := by decide +kernel
theorem d_Model_init_26 : decode b_Model_init 26 = .ok (.newarray .int, 2) := by decide +kernel
theorem d_Model_init_28 : decode b_Model_init 28 = .ok (.putfield 17, 3) := by decide +kernel
theorem d_Model_init_31 : decode b_Model_init 31 = .ok (.aload_n 0, 1) := by decide +kernel
theorem d_Model_init_32 : decode b_Model_init 32 = .ok (.sipush 200, 3) := by decide +kernel
theorem d_Model_init_35 : decode b_Model_init 35 = .ok (.newarray .int, 2) := by decide +kernel
theorem d_Model_init_37 : decode b_Model_init 37 = .ok (.putfield 20, 3) := by decide +kernel
theorem d_Model_init_40 : decode b_Model_init 40 = .ok (.aload_n 0, 1) := by decide +kernel
theorem d_Model_init_41 : decode b_Model_init 41 = .ok (.sipush 1600, 3) := by decide +kernel
theorem d_Model_init_44 : decode b_Model_init 44 = .ok (.newarray .int, 2) := by decide +kernel
theorem d_Model_init_46 : decode b_Model_init 46 = .ok (.putfield 23, 3) := by decide +kernel
theorem d_Model_init_49 : decode b_Model_init 49 = .ok (.return_, 1) := by decide +kernel
theorem d_Model_isItem_0 : decode b_Model_isItem 0 = .ok (.iload_n 0, 1) := by decide +kernel
theorem d_Model_isItem_1 : decode b_Model_isItem 1 = .ok (.ifCond .lt 14, 3) := by decide +kernel
theorem d_Model_isItem_4 : decode b_Model_isItem 4 = .ok (.iload_n 0, 1) := by decide +kernel
theorem d_Model_isItem_5 : decode b_Model_isItem 5 = .ok (.sipush 200, 3) := by decide +kernel
theorem d_Model_isItem_8 : decode b_Model_isItem 8 = .ok (.if_icmp .ge 7, 3) := by decide +kernel
theorem d_Model_isItem_11 : decode b_Model_isItem 11 = .ok (.iconst 1, 1) := by decide +kernel
theorem d_Model_isItem_12 : decode b_Model_isItem 12 = .ok (.goto 4, 3) := by decide +kernel
theorem d_Model_isItem_15 : decode b_Model_isItem 15 = .ok (.iconst 0, 1) := by decide +kernel
theorem d_Model_isItem_16 : decode b_Model_isItem 16 = .ok (.ireturn, 1) := by decide +kernel
theorem d_Model_isQueued_0 : decode b_Model_isQueued 0 = .ok (.iload_n 1, 1) := by decide +kernel
theorem d_Model_isQueued_1 : decode b_Model_isQueued 1 = .ok (.invokestatic 26, 3) := by decide +kernel
theorem d_Model_isQueued_4 : decode b_Model_isQueued 4 = .ok (.ifCond .eq 16, 3) := by decide +kernel
theorem d_Model_isQueued_7 : decode b_Model_isQueued 7 = .ok (.aload_n 0, 1) := by decide +kernel
theorem d_Model_isQueued_8 : decode b_Model_isQueued 8 = .ok (.getfield 7, 3) := by decide +kernel
theorem d_Model_isQueued_11 : decode b_Model_isQueued 11 = .ok (.iload_n 1, 1) := by decide +kernel
theorem d_Model_isQueued_12 : decode b_Model_isQueued 12 = .ok (.baload, 1) := by decide +kernel
theorem d_Model_isQueued_13 : decode b_Model_isQueued 13 = .ok (.ifCond .eq 7, 3) := by decide +kernel
theorem d_Model_isQueued_16 : decode b_Model_isQueued 16 = .ok (.iconst 1, 1) := by decide +kernel
theorem d_Model_isQueued_17 : decode b_Model_isQueued 17 = .ok (.goto 4, 3) := by decide +kernel
theorem d_Model_isQueued_20 : decode b_Model_isQueued 20 = .ok (.iconst 0, 1) := by decide +kernel
theorem d_Model_isQueued_21 : decode b_Model_isQueued 21 = .ok (.ireturn, 1) := by decide +kernel
theorem d_Model_isPosition_0 : decode b_Model_isPosition 0 = .ok (.iload_n 0, 1) := by decide +kernel
theorem d_Model_isPosition_1 : decode b_Model_isPosition 1 = .ok (.ifCond .lt 13, 3) := by decide +kernel
theorem d_Model_isPosition_4 : decode b_Model_isPosition 4 = .ok (.iload_n 0, 1) := by decide +kernel
theorem d_Model_isPosition_5 : decode b_Model_isPosition 5 = .ok (.ldc 30, 2) := by decide +kernel
theorem d_Model_isPosition_7 : decode b_Model_isPosition 7 = .ok (.if_icmp .gt 7, 3) := by decide +kernel
theorem d_Model_isPosition_10 : decode b_Model_isPosition 10 = .ok (.iconst 1, 1) := by decide +kernel
theorem d_Model_isPosition_11 : decode b_Model_isPosition 11 = .ok (.goto 4, 3) := by decide +kernel
theorem d_Model_isPosition_14 : decode b_Model_isPosition 14 = .ok (.iconst 0, 1) := by decide +kernel
theorem d_Model_isPosition_15 : decode b_Model_isPosition 15 = .ok (.ireturn, 1) := by decide +kernel
theorem d_Model_takesFrom_0 : decode b_Model_takesFrom 0 = .ok (.iconst 0, 1) := by decide +kernel
theorem d_Model_takesFrom_1 : decode b_Model_takesFrom 1 = .ok (.istore_n 3, 1) := by decide +kernel
theorem d_Model_takesFrom_2 : decode b_Model_takesFrom 2 = .ok (.iload_n 3, 1) := by decide +kernel
theorem d_Model_takesFrom_3 : decode b_Model_takesFrom 3 = .ok (.aload_n 0, 1) := by decide +kernel
theorem d_Model_takesFrom_4 : decode b_Model_takesFrom 4 = .ok (.getfield 20, 3) := by decide +kernel
theorem d_Model_takesFrom_7 : decode b_Model_takesFrom 7 = .ok (.iload_n 1, 1) := by decide +kernel
theorem d_Model_takesFrom_8 : decode b_Model_takesFrom 8 = .ok (.iaload, 1) := by decide +kernel
theorem d_Model_takesFrom_9 : decode b_Model_takesFrom 9 = .ok (.if_icmp .ge 26, 3) := by decide +kernel
theorem d_Model_takesFrom_12 : decode b_Model_takesFrom 12 = .ok (.aload_n 0, 1) := by decide +kernel
theorem d_Model_takesFrom_13 : decode b_Model_takesFrom 13 = .ok (.getfield 23, 3) := by decide +kernel
theorem d_Model_takesFrom_16 : decode b_Model_takesFrom 16 = .ok (.bipush 8, 2) := by decide +kernel
theorem d_Model_takesFrom_18 : decode b_Model_takesFrom 18 = .ok (.iload_n 1, 1) := by decide +kernel
theorem d_Model_takesFrom_19 : decode b_Model_takesFrom 19 = .ok (.imul, 1) := by decide +kernel
theorem d_Model_takesFrom_20 : decode b_Model_takesFrom 20 = .ok (.iload_n 3, 1) := by decide +kernel
theorem d_Model_takesFrom_21 : decode b_Model_takesFrom 21 = .ok (.iadd, 1) := by decide +kernel
theorem d_Model_takesFrom_22 : decode b_Model_takesFrom 22 = .ok (.iaload, 1) := by decide +kernel
theorem d_Model_takesFrom_23 : decode b_Model_takesFrom 23 = .ok (.iload_n 2, 1) := by decide +kernel
theorem d_Model_takesFrom_24 : decode b_Model_takesFrom 24 = .ok (.if_icmp .ne 5, 3) := by decide +kernel
theorem d_Model_takesFrom_27 : decode b_Model_takesFrom 27 = .ok (.iconst 1, 1) := by decide +kernel
theorem d_Model_takesFrom_28 : decode b_Model_takesFrom 28 = .ok (.ireturn, 1) := by decide +kernel
theorem d_Model_takesFrom_29 : decode b_Model_takesFrom 29 = .ok (.iinc 3 1, 3) := by decide +kernel
theorem d_Model_takesFrom_32 : decode b_Model_takesFrom 32 = .ok (.goto (-30), 3) := by decide +kernel
theorem d_Model_takesFrom_35 : decode b_Model_takesFrom 35 = .ok (.iconst 0, 1) := by decide +kernel
theorem d_Model_takesFrom_36 : decode b_Model_takesFrom 36 = .ok (.ireturn, 1) := by decide +kernel
theorem d_Model_more_0 : decode b_Model_more 0 = .ok (.iload_n 2, 1) := by decide +kernel
theorem d_Model_more_1 : decode b_Model_more 1 = .ok (.invokestatic 31, 3) := by decide +kernel
theorem d_Model_more_4 : decode b_Model_more 4 = .ok (.ifCond .eq 23, 3) := by decide +kernel
theorem d_Model_more_7 : decode b_Model_more 7 = .ok (.aload_n 0, 1) := by decide +kernel
theorem d_Model_more_8 : decode b_Model_more 8 = .ok (.getfield 20, 3) := by decide +kernel
theorem d_Model_more_11 : decode b_Model_more 11 = .ok (.iload_n 1, 1) := by decide +kernel
theorem d_Model_more_12 : decode b_Model_more 12 = .ok (.iaload, 1) := by decide +kernel
theorem d_Model_more_13 : decode b_Model_more 13 = .ok (.bipush 8, 2) := by decide +kernel
theorem d_Model_more_15 : decode b_Model_more 15 = .ok (.if_icmp .eq 12, 3) := by decide +kernel
theorem d_Model_more_18 : decode b_Model_more 18 = .ok (.aload_n 0, 1) := by decide +kernel
theorem d_Model_more_19 : decode b_Model_more 19 = .ok (.iload_n 1, 1) := by decide +kernel
theorem d_Model_more_20 : decode b_Model_more 20 = .ok (.iload_n 2, 1) := by decide +kernel
theorem d_Model_more_21 : decode b_Model_more 21 = .ok (.invokevirtual 34, 3) := by decide +kernel
theorem d_Model_more_24 : decode b_Model_more 24 = .ok (.ifCond .eq 5, 3) := by decide +kernel
theorem d_Model_more_27 : decode b_Model_more 27 = .ok (.iconst 0, 1) := by decide +kernel
theorem d_Model_more_28 : decode b_Model_more 28 = .ok (.ireturn, 1) := by decide +kernel
theorem d_Model_more_29 : decode b_Model_more 29 = .ok (.aload_n 0, 1) := by decide +kernel
theorem d_Model_more_30 : decode b_Model_more 30 = .ok (.getfield 23, 3) := by decide +kernel
theorem d_Model_more_33 : decode b_Model_more 33 = .ok (.bipush 8, 2) := by decide +kernel
theorem d_Model_more_35 : decode b_Model_more 35 = .ok (.iload_n 1, 1) := by decide +kernel
theorem d_Model_more_36 : decode b_Model_more 36 = .ok (.imul, 1) := by decide +kernel
theorem d_Model_more_37 : decode b_Model_more 37 = .ok (.aload_n 0, 1) := by decide +kernel
theorem d_Model_more_38 : decode b_Model_more 38 = .ok (.getfield 20, 3) := by decide +kernel
theorem d_Model_more_41 : decode b_Model_more 41 = .ok (.iload_n 1, 1) := by decide +kernel
theorem d_Model_more_42 : decode b_Model_more 42 = .ok (.iaload, 1) := by decide +kernel
theorem d_Model_more_43 : decode b_Model_more 43 = .ok (.iadd, 1) := by decide +kernel
theorem d_Model_more_44 : decode b_Model_more 44 = .ok (.iload_n 2, 1) := by decide +kernel
theorem d_Model_more_45 : decode b_Model_more 45 = .ok (.iastore, 1) := by decide +kernel
theorem d_Model_more_46 : decode b_Model_more 46 = .ok (.aload_n 0, 1) := by decide +kernel
theorem d_Model_more_47 : decode b_Model_more 47 = .ok (.getfield 20, 3) := by decide +kernel
theorem d_Model_more_50 : decode b_Model_more 50 = .ok (.iload_n 1, 1) := by decide +kernel
theorem d_Model_more_51 : decode b_Model_more 51 = .ok (.aload_n 0, 1) := by decide +kernel
theorem d_Model_more_52 : decode b_Model_more 52 = .ok (.getfield 20, 3) := by decide +kernel
theorem d_Model_more_55 : decode b_Model_more 55 = .ok (.iload_n 1, 1) := by decide +kernel
theorem d_Model_more_56 : decode b_Model_more 56 = .ok (.iaload, 1) := by decide +kernel
theorem d_Model_more_57 : decode b_Model_more 57 = .ok (.iconst 1, 1) := by decide +kernel
theorem d_Model_more_58 : decode b_Model_more 58 = .ok (.iadd, 1) := by decide +kernel
theorem d_Model_more_59 : decode b_Model_more 59 = .ok (.iastore, 1) := by decide +kernel
theorem d_Model_more_60 : decode b_Model_more 60 = .ok (.iconst 1, 1) := by decide +kernel
theorem d_Model_more_61 : decode b_Model_more 61 = .ok (.ireturn, 1) := by decide +kernel
theorem d_Model_take_0 : decode b_Model_take 0 = .ok (.iload_n 1, 1) := by decide +kernel
theorem d_Model_take_1 : decode b_Model_take 1 = .ok (.invokestatic 26, 3) := by decide +kernel
theorem d_Model_take_4 : decode b_Model_take 4 = .ok (.ifCond .eq 25, 3) := by decide +kernel
theorem d_Model_take_7 : decode b_Model_take 7 = .ok (.aload_n 0, 1) := by decide +kernel
theorem d_Model_take_8 : decode b_Model_take 8 = .ok (.getfield 7, 3) := by decide +kernel
theorem d_Model_take_11 : decode b_Model_take 11 = .ok (.iload_n 1, 1) := by decide +kernel
theorem d_Model_take_12 : decode b_Model_take 12 = .ok (.baload, 1) := by decide +kernel
theorem d_Model_take_13 : decode b_Model_take 13 = .ok (.ifCond .ne 16, 3) := by decide +kernel
theorem d_Model_take_16 : decode b_Model_take 16 = .ok (.aload_n 0, 1) := by decide +kernel
theorem d_Model_take_17 : decode b_Model_take 17 = .ok (.iload_n 1, 1) := by decide +kernel
theorem d_Model_take_18 : decode b_Model_take 18 = .ok (.iload_n 2, 1) := by decide +kernel
theorem d_Model_take_19 : decode b_Model_take 19 = .ok (.invokevirtual 38, 3) := by decide +kernel
theorem d_Model_take_22 : decode b_Model_take 22 = .ok (.ifCond .eq 7, 3) := by decide +kernel
theorem d_Model_take_25 : decode b_Model_take 25 = .ok (.iconst 1, 1) := by decide +kernel
theorem d_Model_take_26 : decode b_Model_take 26 = .ok (.goto 4, 3) := by decide +kernel
theorem d_Model_take_29 : decode b_Model_take 29 = .ok (.iconst 0, 1) := by decide +kernel
theorem d_Model_take_30 : decode b_Model_take 30 = .ok (.ireturn, 1) := by decide +kernel
theorem d_Model_join_0 : decode b_Model_join 0 = .ok (.aload_n 0, 1) := by decide +kernel
theorem d_Model_join_1 : decode b_Model_join 1 = .ok (.iload_n 1, 1) := by decide +kernel
theorem d_Model_join_2 : decode b_Model_join 2 = .ok (.invokevirtual 41, 3) := by decide +kernel
theorem d_Model_join_5 : decode b_Model_join 5 = .ok (.ifCond .eq 16, 3) := by decide +kernel
theorem d_Model_join_8 : decode b_Model_join 8 = .ok (.aload_n 0, 1) := by decide +kernel
theorem d_Model_join_9 : decode b_Model_join 9 = .ok (.iload_n 1, 1) := by decide +kernel
theorem d_Model_join_10 : decode b_Model_join 10 = .ok (.iload_n 2, 1) := by decide +kernel
theorem d_Model_join_11 : decode b_Model_join 11 = .ok (.invokevirtual 38, 3) := by decide +kernel
theorem d_Model_join_14 : decode b_Model_join 14 = .ok (.ifCond .eq 7, 3) := by decide +kernel
theorem d_Model_join_17 : decode b_Model_join 17 = .ok (.iconst 1, 1) := by decide +kernel
theorem d_Model_join_18 : decode b_Model_join 18 = .ok (.goto 4, 3) := by decide +kernel
theorem d_Model_join_21 : decode b_Model_join 21 = .ok (.iconst 0, 1) := by decide +kernel
theorem d_Model_join_22 : decode b_Model_join 22 = .ok (.ireturn, 1) := by decide +kernel
theorem d_Model_part_0 : decode b_Model_part 0 = .ok (.aload_n 0, 1) := by decide +kernel
theorem d_Model_part_1 : decode b_Model_part 1 = .ok (.iload_n 1, 1) := by decide +kernel
theorem d_Model_part_2 : decode b_Model_part 2 = .ok (.invokevirtual 41, 3) := by decide +kernel
theorem d_Model_part_5 : decode b_Model_part 5 = .ok (.ifCond .eq 12, 3) := by decide +kernel
theorem d_Model_part_8 : decode b_Model_part 8 = .ok (.aload_n 0, 1) := by decide +kernel
theorem d_Model_part_9 : decode b_Model_part 9 = .ok (.iload_n 1, 1) := by decide +kernel
theorem d_Model_part_10 : decode b_Model_part 10 = .ok (.iload_n 2, 1) := by decide +kernel
theorem d_Model_part_11 : decode b_Model_part 11 = .ok (.invokevirtual 34, 3) := by decide +kernel
theorem d_Model_part_14 : decode b_Model_part 14 = .ok (.ifCond .ne 5, 3) := by decide +kernel
theorem d_Model_part_17 : decode b_Model_part 17 = .ok (.iconst 0, 1) := by decide +kernel
theorem d_Model_part_18 : decode b_Model_part 18 = .ok (.ireturn, 1) := by decide +kernel
theorem d_Model_part_19 : decode b_Model_part 19 = .ok (.bipush 8, 2) := by decide +kernel
theorem d_Model_part_21 : decode b_Model_part 21 = .ok (.iload_n 1, 1) := by decide +kernel
theorem d_Model_part_22 : decode b_Model_part 22 = .ok (.imul, 1) := by decide +kernel
theorem d_Model_part_23 : decode b_Model_part 23 = .ok (.istore_n 3, 1) := by decide +kernel
theorem d_Model_part_24 : decode b_Model_part 24 = .ok (.aload_n 0, 1) := by decide +kernel
theorem d_Model_part_25 : decode b_Model_part 25 = .ok (.getfield 23, 3) := by decide +kernel
theorem d_Model_part_28 : decode b_Model_part 28 = .ok (.iload_n 3, 1) := by decide +kernel
theorem d_Model_part_29 : decode b_Model_part 29 = .ok (.iaload, 1) := by decide +kernel
theorem d_Model_part_30 : decode b_Model_part 30 = .ok (.iload_n 2, 1) := by decide +kernel
theorem d_Model_part_31 : decode b_Model_part 31 = .ok (.if_icmp .eq 10, 3) := by decide +kernel
theorem d_Model_part_34 : decode b_Model_part 34 = .ok (.iload_n 3, 1) := by decide +kernel
theorem d_Model_part_35 : decode b_Model_part 35 = .ok (.iconst 1, 1) := by decide +kernel
theorem d_Model_part_36 : decode b_Model_part 36 = .ok (.iadd, 1) := by decide +kernel
theorem d_Model_part_37 : decode b_Model_part 37 = .ok (.istore_n 3, 1) := by decide +kernel
theorem d_Model_part_38 : decode b_Model_part 38 = .ok (.goto (-14), 3) := by decide +kernel
theorem d_Model_part_41 : decode b_Model_part 41 = .ok (.aload_n 0, 1) := by decide +kernel
theorem d_Model_part_42 : decode b_Model_part 42 = .ok (.getfield 20, 3) := by decide +kernel
theorem d_Model_part_45 : decode b_Model_part 45 = .ok (.iload_n 1, 1) := by decide +kernel
theorem d_Model_part_46 : decode b_Model_part 46 = .ok (.aload_n 0, 1) := by decide +kernel
theorem d_Model_part_47 : decode b_Model_part 47 = .ok (.getfield 20, 3) := by decide +kernel
theorem d_Model_part_50 : decode b_Model_part 50 = .ok (.iload_n 1, 1) := by decide +kernel
theorem d_Model_part_51 : decode b_Model_part 51 = .ok (.iaload, 1) := by decide +kernel
theorem d_Model_part_52 : decode b_Model_part 52 = .ok (.iconst 1, 1) := by decide +kernel
theorem d_Model_part_53 : decode b_Model_part 53 = .ok (.isub, 1) := by decide +kernel
theorem d_Model_part_54 : decode b_Model_part 54 = .ok (.iastore, 1) := by decide +kernel
theorem d_Model_part_55 : decode b_Model_part 55 = .ok (.iload_n 3, 1) := by decide +kernel
theorem d_Model_part_56 : decode b_Model_part 56 = .ok (.bipush 8, 2) := by decide +kernel
theorem d_Model_part_58 : decode b_Model_part 58 = .ok (.iload_n 1, 1) := by decide +kernel
theorem d_Model_part_59 : decode b_Model_part 59 = .ok (.imul, 1) := by decide +kernel
theorem d_Model_part_60 : decode b_Model_part 60 = .ok (.aload_n 0, 1) := by decide +kernel
theorem d_Model_part_61 : decode b_Model_part 61 = .ok (.getfield 20, 3) := by decide +kernel
theorem d_Model_part_64 : decode b_Model_part 64 = .ok (.iload_n 1, 1) := by decide +kernel
theorem d_Model_part_65 : decode b_Model_part 65 = .ok (.iaload, 1) := by decide +kernel
theorem d_Model_part_66 : decode b_Model_part 66 = .ok (.iadd, 1) := by decide +kernel
theorem d_Model_part_67 : decode b_Model_part 67 = .ok (.if_icmp .ge 23, 3) := by decide +kernel
theorem d_Model_part_70 : decode b_Model_part 70 = .ok (.aload_n 0, 1) := by decide +kernel
theorem d_Model_part_71 : decode b_Model_part 71 = .ok (.getfield 23, 3) := by decide +kernel
theorem d_Model_part_74 : decode b_Model_part 74 = .ok (.iload_n 3, 1) := by decide +kernel
end
section
theorem d_Model_part_75 : decode b_Model_part 75 = .ok (.aload_n 0, 1) := by decide +kernel
theorem d_Model_part_76 : decode b_Model_part 76 = .ok (.getfield 23, 3) := by decide +kernel
theorem d_Model_part_79 : decode b_Model_part 79 = .ok (.iload_n 3, 1) := by decide +kernel
theorem d_Model_part_80 : decode b_Model_part 80 = .ok (.iconst 1, 1) := by decide +kernel
theorem d_Model_part_81 : decode b_Model_part 81 = .ok (.iadd, 1) := by decide +kernel
theorem d_Model_part_82 : decode b_Model_part 82 = .ok (.iaload, 1) := by decide +kernel
theorem d_Model_part_83 : decode b_Model_part 83 = .ok (.iastore, 1) := by decide +kernel
theorem d_Model_part_84 : decode b_Model_part 84 = .ok (.iinc 3 1, 3) := by decide +kernel
theorem d_Model_part_87 : decode b_Model_part 87 = .ok (.goto (-32), 3) := by decide +kernel
theorem d_Model_part_90 : decode b_Model_part 90 = .ok (.iconst 1, 1) := by decide +kernel
theorem d_Model_part_91 : decode b_Model_part 91 = .ok (.ireturn, 1) := by decide +kernel
theorem d_Model_arrive_0 : decode b_Model_arrive 0 = .ok (.aload_n 0, 1) := by decide +kernel
theorem d_Model_arrive_1 : decode b_Model_arrive 1 = .ok (.getfield 7, 3) := by decide +kernel
theorem d_Model_arrive_4 : decode b_Model_arrive 4 = .ok (.iload_n 1, 1) := by decide +kernel
theorem d_Model_arrive_5 : decode b_Model_arrive 5 = .ok (.iconst 1, 1) := by decide +kernel
theorem d_Model_arrive_6 : decode b_Model_arrive 6 = .ok (.bastore, 1) := by decide +kernel
theorem d_Model_arrive_7 : decode b_Model_arrive 7 = .ok (.aload_n 0, 1) := by decide +kernel
theorem d_Model_arrive_8 : decode b_Model_arrive 8 = .ok (.getfield 13, 3) := by decide +kernel
theorem d_Model_arrive_11 : decode b_Model_arrive 11 = .ok (.iload_n 1, 1) := by decide +kernel
theorem d_Model_arrive_12 : decode b_Model_arrive 12 = .ok (.iload_n 2, 1) := by decide +kernel
theorem d_Model_arrive_13 : decode b_Model_arrive 13 = .ok (.iastore, 1) := by decide +kernel
theorem d_Model_arrive_14 : decode b_Model_arrive 14 = .ok (.aload_n 0, 1) := by decide +kernel
theorem d_Model_arrive_15 : decode b_Model_arrive 15 = .ok (.aload_n 0, 1) := by decide +kernel
theorem d_Model_arrive_16 : decode b_Model_arrive 16 = .ok (.getfield 44, 3) := by decide +kernel
theorem d_Model_arrive_19 : decode b_Model_arrive 19 = .ok (.iconst 1, 1) := by decide +kernel
theorem d_Model_arrive_20 : decode b_Model_arrive 20 = .ok (.iadd, 1) := by decide +kernel
theorem d_Model_arrive_21 : decode b_Model_arrive 21 = .ok (.putfield 44, 3) := by decide +kernel
theorem d_Model_arrive_24 : decode b_Model_arrive 24 = .ok (.aload_n 0, 1) := by decide +kernel
theorem d_Model_arrive_25 : decode b_Model_arrive 25 = .ok (.getfield 17, 3) := by decide +kernel
theorem d_Model_arrive_28 : decode b_Model_arrive 28 = .ok (.iload_n 1, 1) := by decide +kernel
theorem d_Model_arrive_29 : decode b_Model_arrive 29 = .ok (.aload_n 0, 1) := by decide +kernel
theorem d_Model_arrive_30 : decode b_Model_arrive 30 = .ok (.getfield 44, 3) := by decide +kernel
theorem d_Model_arrive_33 : decode b_Model_arrive 33 = .ok (.iastore, 1) := by decide +kernel
theorem d_Model_arrive_34 : decode b_Model_arrive 34 = .ok (.aload_n 0, 1) := by decide +kernel
theorem d_Model_arrive_35 : decode b_Model_arrive 35 = .ok (.getfield 44, 3) := by decide +kernel
theorem d_Model_arrive_38 : decode b_Model_arrive 38 = .ok (.ireturn, 1) := by decide +kernel
theorem d_Model_isPriority_0 : decode b_Model_isPriority 0 = .ok (.iload_n 0, 1) := by decide +kernel
theorem d_Model_isPriority_1 : decode b_Model_isPriority 1 = .ok (.iconst 1, 1) := by decide +kernel
theorem d_Model_isPriority_2 : decode b_Model_isPriority 2 = .ok (.if_icmp .lt 13, 3) := by decide +kernel
theorem d_Model_isPriority_5 : decode b_Model_isPriority 5 = .ok (.iload_n 0, 1) := by decide +kernel
theorem d_Model_isPriority_6 : decode b_Model_isPriority 6 = .ok (.bipush 9, 2) := by decide +kernel
theorem d_Model_isPriority_8 : decode b_Model_isPriority 8 = .ok (.if_icmp .gt 7, 3) := by decide +kernel
theorem d_Model_isPriority_11 : decode b_Model_isPriority 11 = .ok (.iconst 1, 1) := by decide +kernel
theorem d_Model_isPriority_12 : decode b_Model_isPriority 12 = .ok (.goto 4, 3) := by decide +kernel
theorem d_Model_isPriority_15 : decode b_Model_isPriority 15 = .ok (.iconst 0, 1) := by decide +kernel
theorem d_Model_isPriority_16 : decode b_Model_isPriority 16 = .ok (.ireturn, 1) := by decide +kernel
theorem d_Model_come_0 : decode b_Model_come 0 = .ok (.iload_n 1, 1) := by decide +kernel
theorem d_Model_come_1 : decode b_Model_come 1 = .ok (.invokestatic 26, 3) := by decide +kernel
theorem d_Model_come_4 : decode b_Model_come 4 = .ok (.ifCond .eq 28, 3) := by decide +kernel
theorem d_Model_come_7 : decode b_Model_come 7 = .ok (.aload_n 0, 1) := by decide +kernel
theorem d_Model_come_8 : decode b_Model_come 8 = .ok (.getfield 7, 3) := by decide +kernel
theorem d_Model_come_11 : decode b_Model_come 11 = .ok (.iload_n 1, 1) := by decide +kernel
theorem d_Model_come_12 : decode b_Model_come 12 = .ok (.baload, 1) := by decide +kernel
theorem d_Model_come_13 : decode b_Model_come 13 = .ok (.ifCond .ne 19, 3) := by decide +kernel
theorem d_Model_come_16 : decode b_Model_come 16 = .ok (.iload_n 2, 1) := by decide +kernel
theorem d_Model_come_17 : decode b_Model_come 17 = .ok (.invokestatic 48, 3) := by decide +kernel
theorem d_Model_come_20 : decode b_Model_come 20 = .ok (.ifCond .eq 12, 3) := by decide +kernel
theorem d_Model_come_23 : decode b_Model_come 23 = .ok (.aload_n 0, 1) := by decide +kernel
theorem d_Model_come_24 : decode b_Model_come 24 = .ok (.iload_n 1, 1) := by decide +kernel
theorem d_Model_come_25 : decode b_Model_come 25 = .ok (.iload_n 2, 1) := by decide +kernel
theorem d_Model_come_26 : decode b_Model_come 26 = .ok (.invokevirtual 51, 3) := by decide +kernel
theorem d_Model_come_29 : decode b_Model_come 29 = .ok (.goto 4, 3) := by decide +kernel
theorem d_Model_come_32 : decode b_Model_come 32 = .ok (.iconst 0, 1) := by decide +kernel
theorem d_Model_come_33 : decode b_Model_come 33 = .ok (.ireturn, 1) := by decide +kernel
theorem d_Model_leave_0 : decode b_Model_leave 0 = .ok (.aload_n 0, 1) := by decide +kernel
theorem d_Model_leave_1 : decode b_Model_leave 1 = .ok (.iload_n 1, 1) := by decide +kernel
theorem d_Model_leave_2 : decode b_Model_leave 2 = .ok (.invokevirtual 41, 3) := by decide +kernel
theorem d_Model_leave_5 : decode b_Model_leave 5 = .ok (.ifCond .ne 5, 3) := by decide +kernel
theorem d_Model_leave_8 : decode b_Model_leave 8 = .ok (.iconst 0, 1) := by decide +kernel
theorem d_Model_leave_9 : decode b_Model_leave 9 = .ok (.ireturn, 1) := by decide +kernel
theorem d_Model_leave_10 : decode b_Model_leave 10 = .ok (.aload_n 0, 1) := by decide +kernel
theorem d_Model_leave_11 : decode b_Model_leave 11 = .ok (.getfield 7, 3) := by decide +kernel
theorem d_Model_leave_14 : decode b_Model_leave 14 = .ok (.iload_n 1, 1) := by decide +kernel
theorem d_Model_leave_15 : decode b_Model_leave 15 = .ok (.iconst 0, 1) := by decide +kernel
theorem d_Model_leave_16 : decode b_Model_leave 16 = .ok (.bastore, 1) := by decide +kernel
theorem d_Model_leave_17 : decode b_Model_leave 17 = .ok (.aload_n 0, 1) := by decide +kernel
theorem d_Model_leave_18 : decode b_Model_leave 18 = .ok (.getfield 20, 3) := by decide +kernel
theorem d_Model_leave_21 : decode b_Model_leave 21 = .ok (.iload_n 1, 1) := by decide +kernel
theorem d_Model_leave_22 : decode b_Model_leave 22 = .ok (.iconst 0, 1) := by decide +kernel
theorem d_Model_leave_23 : decode b_Model_leave 23 = .ok (.iastore, 1) := by decide +kernel
theorem d_Model_leave_24 : decode b_Model_leave 24 = .ok (.iconst 1, 1) := by decide +kernel
theorem d_Model_leave_25 : decode b_Model_leave 25 = .ok (.ireturn, 1) := by decide +kernel
theorem d_Model_again_0 : decode b_Model_again 0 = .ok (.aload_n 0, 1) := by decide +kernel
theorem d_Model_again_1 : decode b_Model_again 1 = .ok (.iload_n 1, 1) := by decide +kernel
theorem d_Model_again_2 : decode b_Model_again 2 = .ok (.invokevirtual 41, 3) := by decide +kernel
theorem d_Model_again_5 : decode b_Model_again 5 = .ok (.ifCond .eq 19, 3) := by decide +kernel
theorem d_Model_again_8 : decode b_Model_again 8 = .ok (.iload_n 2, 1) := by decide +kernel
theorem d_Model_again_9 : decode b_Model_again 9 = .ok (.invokestatic 48, 3) := by decide +kernel
theorem d_Model_again_12 : decode b_Model_again 12 = .ok (.ifCond .eq 12, 3) := by decide +kernel
theorem d_Model_again_15 : decode b_Model_again 15 = .ok (.aload_n 0, 1) := by decide +kernel
theorem d_Model_again_16 : decode b_Model_again 16 = .ok (.iload_n 1, 1) := by decide +kernel
theorem d_Model_again_17 : decode b_Model_again 17 = .ok (.iload_n 2, 1) := by decide +kernel
theorem d_Model_again_18 : decode b_Model_again 18 = .ok (.invokevirtual 51, 3) := by decide +kernel
theorem d_Model_again_21 : decode b_Model_again 21 = .ok (.goto 4, 3) := by decide +kernel
theorem d_Model_again_24 : decode b_Model_again 24 = .ok (.iconst 0, 1) := by decide +kernel
theorem d_Model_again_25 : decode b_Model_again 25 = .ok (.ireturn, 1) := by decide +kernel
theorem d_Model_stands_0 : decode b_Model_stands 0 = .ok (.aload_n 0, 1) := by decide +kernel
theorem d_Model_stands_1 : decode b_Model_stands 1 = .ok (.getfield 13, 3) := by decide +kernel
theorem d_Model_stands_4 : decode b_Model_stands 4 = .ok (.iload_n 1, 1) := by decide +kernel
theorem d_Model_stands_5 : decode b_Model_stands 5 = .ok (.iaload, 1) := by decide +kernel
theorem d_Model_stands_6 : decode b_Model_stands 6 = .ok (.aload_n 0, 1) := by decide +kernel
theorem d_Model_stands_7 : decode b_Model_stands 7 = .ok (.getfield 13, 3) := by decide +kernel
theorem d_Model_stands_10 : decode b_Model_stands 10 = .ok (.iload_n 2, 1) := by decide +kernel
theorem d_Model_stands_11 : decode b_Model_stands 11 = .ok (.iaload, 1) := by decide +kernel
theorem d_Model_stands_12 : decode b_Model_stands 12 = .ok (.if_icmp .lt 33, 3) := by decide +kernel
theorem d_Model_stands_15 : decode b_Model_stands 15 = .ok (.aload_n 0, 1) := by decide +kernel
theorem d_Model_stands_16 : decode b_Model_stands 16 = .ok (.getfield 13, 3) := by decide +kernel
theorem d_Model_stands_19 : decode b_Model_stands 19 = .ok (.iload_n 1, 1) := by decide +kernel
theorem d_Model_stands_20 : decode b_Model_stands 20 = .ok (.iaload, 1) := by decide +kernel
theorem d_Model_stands_21 : decode b_Model_stands 21 = .ok (.aload_n 0, 1) := by decide +kernel
theorem d_Model_stands_22 : decode b_Model_stands 22 = .ok (.getfield 13, 3) := by decide +kernel
theorem d_Model_stands_25 : decode b_Model_stands 25 = .ok (.iload_n 2, 1) := by decide +kernel
theorem d_Model_stands_26 : decode b_Model_stands 26 = .ok (.iaload, 1) := by decide +kernel
theorem d_Model_stands_27 : decode b_Model_stands 27 = .ok (.if_icmp .ne 22, 3) := by decide +kernel
theorem d_Model_stands_30 : decode b_Model_stands 30 = .ok (.aload_n 0, 1) := by decide +kernel
theorem d_Model_stands_31 : decode b_Model_stands 31 = .ok (.getfield 17, 3) := by decide +kernel
theorem d_Model_stands_34 : decode b_Model_stands 34 = .ok (.iload_n 1, 1) := by decide +kernel
theorem d_Model_stands_35 : decode b_Model_stands 35 = .ok (.iaload, 1) := by decide +kernel
theorem d_Model_stands_36 : decode b_Model_stands 36 = .ok (.aload_n 0, 1) := by decide +kernel
theorem d_Model_stands_37 : decode b_Model_stands 37 = .ok (.getfield 17, 3) := by decide +kernel
theorem d_Model_stands_40 : decode b_Model_stands 40 = .ok (.iload_n 2, 1) := by decide +kernel
theorem d_Model_stands_41 : decode b_Model_stands 41 = .ok (.iaload, 1) := by decide +kernel
theorem d_Model_stands_42 : decode b_Model_stands 42 = .ok (.if_icmp .ge 7, 3) := by decide +kernel
theorem d_Model_stands_45 : decode b_Model_stands 45 = .ok (.iconst 1, 1) := by decide +kernel
theorem d_Model_stands_46 : decode b_Model_stands 46 = .ok (.goto 4, 3) := by decide +kernel
theorem d_Model_stands_49 : decode b_Model_stands 49 = .ok (.iconst 0, 1) := by decide +kernel
theorem d_Model_stands_50 : decode b_Model_stands 50 = .ok (.ireturn, 1) := by decide +kernel
theorem d_Model_isOf_0 : decode b_Model_isOf 0 = .ok (.aload_n 0, 1) := by decide +kernel
theorem d_Model_isOf_1 : decode b_Model_isOf 1 = .ok (.getfield 7, 3) := by decide +kernel
theorem d_Model_isOf_4 : decode b_Model_isOf 4 = .ok (.iload_n 1, 1) := by decide +kernel
theorem d_Model_isOf_5 : decode b_Model_isOf 5 = .ok (.baload, 1) := by decide +kernel
theorem d_Model_isOf_6 : decode b_Model_isOf 6 = .ok (.ifCond .eq 21, 3) := by decide +kernel
theorem d_Model_isOf_9 : decode b_Model_isOf 9 = .ok (.iload_n 2, 1) := by decide +kernel
theorem d_Model_isOf_10 : decode b_Model_isOf 10 = .ok (.iconst (-1), 1) := by decide +kernel
theorem d_Model_isOf_11 : decode b_Model_isOf 11 = .ok (.if_icmp .eq 12, 3) := by decide +kernel
theorem d_Model_isOf_14 : decode b_Model_isOf 14 = .ok (.aload_n 0, 1) := by decide +kernel
theorem d_Model_isOf_15 : decode b_Model_isOf 15 = .ok (.iload_n 1, 1) := by decide +kernel
theorem d_Model_isOf_16 : decode b_Model_isOf 16 = .ok (.iload_n 2, 1) := by decide +kernel
theorem d_Model_isOf_17 : decode b_Model_isOf 17 = .ok (.invokevirtual 34, 3) := by decide +kernel
theorem d_Model_isOf_20 : decode b_Model_isOf 20 = .ok (.ifCond .eq 7, 3) := by decide +kernel
theorem d_Model_isOf_23 : decode b_Model_isOf 23 = .ok (.iconst 1, 1) := by decide +kernel
theorem d_Model_isOf_24 : decode b_Model_isOf 24 = .ok (.goto 4, 3) := by decide +kernel
theorem d_Model_isOf_27 : decode b_Model_isOf 27 = .ok (.iconst 0, 1) := by decide +kernel
theorem d_Model_isOf_28 : decode b_Model_isOf 28 = .ok (.ireturn, 1) := by decide +kernel
theorem d_Model_nearest_0 : decode b_Model_nearest 0 = .ok (.iconst (-1), 1) := by decide +kernel
theorem d_Model_nearest_1 : decode b_Model_nearest 1 = .ok (.istore 4, 2) := by decide +kernel
theorem d_Model_nearest_3 : decode b_Model_nearest 3 = .ok (.iconst 0, 1) := by decide +kernel
theorem d_Model_nearest_4 : decode b_Model_nearest 4 = .ok (.istore 5, 2) := by decide +kernel
theorem d_Model_nearest_6 : decode b_Model_nearest 6 = .ok (.iload 5, 2) := by decide +kernel
theorem d_Model_nearest_8 : decode b_Model_nearest 8 = .ok (.sipush 200, 3) := by decide +kernel
theorem d_Model_nearest_11 : decode b_Model_nearest 11 = .ok (.if_icmp .ge 85, 3) := by decide +kernel
theorem d_Model_nearest_14 : decode b_Model_nearest 14 = .ok (.aload_n 0, 1) := by decide +kernel
theorem d_Model_nearest_15 : decode b_Model_nearest 15 = .ok (.iload 5, 2) := by decide +kernel
theorem d_Model_nearest_17 : decode b_Model_nearest 17 = .ok (.iload_n 2, 1) := by decide +kernel
theorem d_Model_nearest_18 : decode b_Model_nearest 18 = .ok (.invokevirtual 55, 3) := by decide +kernel
theorem d_Model_nearest_21 : decode b_Model_nearest 21 = .ok (.ifCond .eq 22, 3) := by decide +kernel
theorem d_Model_nearest_24 : decode b_Model_nearest 24 = .ok (.iload_n 1, 1) := by decide +kernel
theorem d_Model_nearest_25 : decode b_Model_nearest 25 = .ok (.iconst (-1), 1) := by decide +kernel
theorem d_Model_nearest_26 : decode b_Model_nearest 26 = .ok (.if_icmp .eq 13, 3) := by decide +kernel
theorem d_Model_nearest_29 : decode b_Model_nearest 29 = .ok (.aload_n 0, 1) := by decide +kernel
theorem d_Model_nearest_30 : decode b_Model_nearest 30 = .ok (.iload_n 1, 1) := by decide +kernel
theorem d_Model_nearest_31 : decode b_Model_nearest 31 = .ok (.iload 5, 2) := by decide +kernel
theorem d_Model_nearest_33 : decode b_Model_nearest 33 = .ok (.invokevirtual 58, 3) := by decide +kernel
theorem d_Model_nearest_36 : decode b_Model_nearest 36 = .ok (.ifCond .eq 7, 3) := by decide +kernel
theorem d_Model_nearest_39 : decode b_Model_nearest 39 = .ok (.iconst 1, 1) := by decide +kernel
theorem d_Model_nearest_40 : decode b_Model_nearest 40 = .ok (.goto 4, 3) := by decide +kernel
theorem d_Model_nearest_43 : decode b_Model_nearest 43 = .ok (.iconst 0, 1) := by decide +kernel
theorem d_Model_nearest_44 : decode b_Model_nearest 44 = .ok (.istore 6, 2) := by decide +kernel
theorem d_Model_nearest_46 : decode b_Model_nearest 46 = .ok (.iload 6, 2) := by decide +kernel
theorem d_Model_nearest_48 : decode b_Model_nearest 48 = .ok (.ifCond .eq 42, 3) := by decide +kernel
theorem d_Model_nearest_51 : decode b_Model_nearest 51 = .ok (.iload 4, 2) := by decide +kernel
theorem d_Model_nearest_53 : decode b_Model_nearest 53 = .ok (.iconst (-1), 1) := by decide +kernel
theorem d_Model_nearest_54 : decode b_Model_nearest 54 = .ok (.if_icmp .eq 32, 3) := by decide +kernel
theorem d_Model_nearest_57 : decode b_Model_nearest 57 = .ok (.iload_n 3, 1) := by decide +kernel
theorem d_Model_nearest_58 : decode b_Model_nearest 58 = .ok (.ifCond .eq 17, 3) := by decide +kernel
theorem d_Model_nearest_61 : decode b_Model_nearest 61 = .ok (.aload_n 0, 1) := by decide +kernel
theorem d_Model_nearest_62 : decode b_Model_nearest 62 = .ok (.iload 4, 2) := by decide +kernel
theorem d_Model_nearest_64 : decode b_Model_nearest 64 = .ok (.iload 5, 2) := by decide +kernel
theorem d_Model_nearest_66 : decode b_Model_nearest 66 = .ok (.invokevirtual 58, 3) := by decide +kernel
theorem d_Model_nearest_69 : decode b_Model_nearest 69 = .ok (.ifCond .eq 21, 3) := by decide +kernel
theorem d_Model_nearest_72 : decode b_Model_nearest 72 = .ok (.goto 14, 3) := by decide +kernel
theorem d_Model_nearest_75 : decode b_Model_nearest 75 = .ok (.aload_n 0, 1) := by decide +kernel
theorem d_Model_nearest_76 : decode b_Model_nearest 76 = .ok (.iload 5, 2) := by decide +kernel
theorem d_Model_nearest_78 : decode b_Model_nearest 78 = .ok (.iload 4, 2) := by decide +kernel
theorem d_Model_nearest_80 : decode b_Model_nearest 80 = .ok (.invokevirtual 58, 3) := by decide +kernel
theorem d_Model_nearest_83 : decode b_Model_nearest 83 = .ok (.ifCond .eq 7, 3) := by decide +kernel
theorem d_Model_nearest_86 : decode b_Model_nearest 86 = .ok (.iload 5, 2) := by decide +kernel
theorem d_Model_nearest_88 : decode b_Model_nearest 88 = .ok (.istore 4, 2) := by decide +kernel
theorem d_Model_nearest_90 : decode b_Model_nearest 90 = .ok (.iinc 5 1, 3) := by decide +kernel
theorem d_Model_nearest_93 : decode b_Model_nearest 93 = .ok (.goto (-87), 3) := by decide +kernel
theorem d_Model_nearest_96 : decode b_Model_nearest 96 = .ok (.iload 4, 2) := by decide +kernel
theorem d_Model_nearest_98 : decode b_Model_nearest 98 = .ok (.ireturn, 1) := by decide +kernel
theorem d_Model_heads_0 : decode b_Model_heads 0 = .ok (.aload_n 0, 1) := by decide +kernel
theorem d_Model_heads_1 : decode b_Model_heads 1 = .ok (.iload_n 1, 1) := by decide +kernel
theorem d_Model_heads_2 : decode b_Model_heads 2 = .ok (.invokevirtual 41, 3) := by decide +kernel
theorem d_Model_heads_5 : decode b_Model_heads 5 = .ok (.ifCond .ne 5, 3) := by decide +kernel
theorem d_Model_heads_8 : decode b_Model_heads 8 = .ok (.iconst 0, 1) := by decide +kernel
theorem d_Model_heads_9 : decode b_Model_heads 9 = .ok (.ireturn, 1) := by decide +kernel
theorem d_Model_heads_10 : decode b_Model_heads 10 = .ok (.iconst 0, 1) := by decide +kernel
theorem d_Model_heads_11 : decode b_Model_heads 11 = .ok (.istore_n 2, 1) := by decide +kernel
theorem d_Model_heads_12 : decode b_Model_heads 12 = .ok (.iload_n 2, 1) := by decide +kernel
theorem d_Model_heads_13 : decode b_Model_heads 13 = .ok (.aload_n 0, 1) := by decide +kernel
theorem d_Model_heads_14 : decode b_Model_heads 14 = .ok (.getfield 20, 3) := by decide +kernel
theorem d_Model_heads_17 : decode b_Model_heads 17 = .ok (.iload_n 1, 1) := by decide +kernel
theorem d_Model_heads_18 : decode b_Model_heads 18 = .ok (.iaload, 1) := by decide +kernel
theorem d_Model_heads_19 : decode b_Model_heads 19 = .ok (.if_icmp .ge 32, 3) := by decide +kernel
theorem d_Model_heads_22 : decode b_Model_heads 22 = .ok (.aload_n 0, 1) := by decide +kernel
theorem d_Model_heads_23 : decode b_Model_heads 23 = .ok (.iconst (-1), 1) := by decide +kernel
theorem d_Model_heads_24 : decode b_Model_heads 24 = .ok (.aload_n 0, 1) := by decide +kernel
theorem d_Model_heads_25 : decode b_Model_heads 25 = .ok (.getfield 23, 3) := by decide +kernel
theorem d_Model_heads_28 : decode b_Model_heads 28 = .ok (.bipush 8, 2) := by decide +kernel
theorem d_Model_heads_30 : decode b_Model_heads 30 = .ok (.iload_n 1, 1) := by decide +kernel
theorem d_Model_heads_31 : decode b_Model_heads 31 = .ok (.imul, 1) := by decide +kernel
theorem d_Model_heads_32 : decode b_Model_heads 32 = .ok (.iload_n 2, 1) := by decide +kernel
theorem d_Model_heads_33 : decode b_Model_heads 33 = .ok (.iadd, 1) := by decide +kernel
theorem d_Model_heads_34 : decode b_Model_heads 34 = .ok (.iaload, 1) := by decide +kernel
theorem d_Model_heads_35 : decode b_Model_heads 35 = .ok (.iconst 0, 1) := by decide +kernel
theorem d_Model_heads_36 : decode b_Model_heads 36 = .ok (.invokevirtual 61, 3) := by decide +kernel
theorem d_Model_heads_39 : decode b_Model_heads 39 = .ok (.iload_n 1, 1) := by decide +kernel
theorem d_Model_heads_40 : decode b_Model_heads 40 = .ok (.if_icmp .eq 5, 3) := by decide +kernel
theorem d_Model_heads_43 : decode b_Model_heads 43 = .ok (.iconst 0, 1) := by decide +kernel
theorem d_Model_heads_44 : decode b_Model_heads 44 = .ok (.ireturn, 1) := by decide +kernel
theorem d_Model_heads_45 : decode b_Model_heads 45 = .ok (.iinc 2 1, 3) := by decide +kernel
theorem d_Model_heads_48 : decode b_Model_heads 48 = .ok (.goto (-36), 3) := by decide +kernel
theorem d_Model_heads_51 : decode b_Model_heads 51 = .ok (.iconst 1, 1) := by decide +kernel
theorem d_Model_heads_52 : decode b_Model_heads 52 = .ok (.ireturn, 1) := by decide +kernel
theorem d_Model_before_0 : decode b_Model_before 0 = .ok (.aload_n 0, 1) := by decide +kernel
theorem d_Model_before_1 : decode b_Model_before 1 = .ok (.iload_n 1, 1) := by decide +kernel
theorem d_Model_before_2 : decode b_Model_before 2 = .ok (.invokevirtual 41, 3) := by decide +kernel
theorem d_Model_before_5 : decode b_Model_before 5 = .ok (.ifCond .eq 24, 3) := by decide +kernel
theorem d_Model_before_8 : decode b_Model_before 8 = .ok (.aload_n 0, 1) := by decide +kernel
theorem d_Model_before_9 : decode b_Model_before 9 = .ok (.iload_n 2, 1) := by decide +kernel
theorem d_Model_before_10 : decode b_Model_before 10 = .ok (.invokevirtual 41, 3) := by decide +kernel
theorem d_Model_before_13 : decode b_Model_before 13 = .ok (.ifCond .eq 16, 3) := by decide +kernel
theorem d_Model_before_16 : decode b_Model_before 16 = .ok (.aload_n 0, 1) := by decide +kernel
theorem d_Model_before_17 : decode b_Model_before 17 = .ok (.iload_n 1, 1) := by decide +kernel
theorem d_Model_before_18 : decode b_Model_before 18 = .ok (.iload_n 2, 1) := by decide +kernel
theorem d_Model_before_19 : decode b_Model_before 19 = .ok (.invokevirtual 58, 3) := by decide +kernel
theorem d_Model_before_22 : decode b_Model_before 22 = .ok (.ifCond .eq 7, 3) := by decide +kernel
theorem d_Model_before_25 : decode b_Model_before 25 = .ok (.iconst 1, 1) := by decide +kernel
theorem d_Model_before_26 : decode b_Model_before 26 = .ok (.goto 4, 3) := by decide +kernel
theorem d_Model_before_29 : decode b_Model_before 29 = .ok (.iconst 0, 1) := by decide +kernel
theorem d_Model_before_30 : decode b_Model_before 30 = .ok (.ireturn, 1) := by decide +kernel
theorem d_Model_first_0 : decode b_Model_first 0 = .ok (.aload_n 0, 1) := by decide +kernel
theorem d_Model_first_1 : decode b_Model_first 1 = .ok (.iconst (-1), 1) := by decide +kernel
theorem d_Model_first_2 : decode b_Model_first 2 = .ok (.iconst (-1), 1) := by decide +kernel
theorem d_Model_first_3 : decode b_Model_first 3 = .ok (.iconst 0, 1) := by decide +kernel
theorem d_Model_first_4 : decode b_Model_first 4 = .ok (.invokevirtual 61, 3) := by decide +kernel
theorem d_Model_first_7 : decode b_Model_first 7 = .ok (.ireturn, 1) := by decide +kernel
theorem d_Model_next_0 : decode b_Model_next 0 = .ok (.aload_n 0, 1) := by decide +kernel
theorem d_Model_next_1 : decode b_Model_next 1 = .ok (.iload_n 1, 1) := by decide +kernel
theorem d_Model_next_2 : decode b_Model_next 2 = .ok (.invokevirtual 41, 3) := by decide +kernel
theorem d_Model_next_5 : decode b_Model_next 5 = .ok (.ifCond .eq 13, 3) := by decide +kernel
theorem d_Model_next_8 : decode b_Model_next 8 = .ok (.aload_n 0, 1) := by decide +kernel
theorem d_Model_next_9 : decode b_Model_next 9 = .ok (.iload_n 1, 1) := by decide +kernel
theorem d_Model_next_10 : decode b_Model_next 10 = .ok (.iconst (-1), 1) := by decide +kernel
theorem d_Model_next_11 : decode b_Model_next 11 = .ok (.iconst 0, 1) := by decide +kernel
theorem d_Model_next_12 : decode b_Model_next 12 = .ok (.invokevirtual 61, 3) := by decide +kernel
theorem d_Model_next_15 : decode b_Model_next 15 = .ok (.goto 4, 3) := by decide +kernel
theorem d_Model_next_18 : decode b_Model_next 18 = .ok (.iconst (-1), 1) := by decide +kernel
theorem d_Model_next_19 : decode b_Model_next 19 = .ok (.ireturn, 1) := by decide +kernel
theorem d_Model_head_0 : decode b_Model_head 0 = .ok (.iload_n 1, 1) := by decide +kernel
theorem d_Model_head_1 : decode b_Model_head 1 = .ok (.invokestatic 31, 3) := by decide +kernel
theorem d_Model_head_4 : decode b_Model_head 4 = .ok (.ifCond .eq 13, 3) := by decide +kernel
theorem d_Model_head_7 : decode b_Model_head 7 = .ok (.aload_n 0, 1) := by decide +kernel
theorem d_Model_head_8 : decode b_Model_head 8 = .ok (.iconst (-1), 1) := by decide +kernel
theorem d_Model_head_9 : decode b_Model_head 9 = .ok (.iload_n 1, 1) := by decide +kernel
theorem d_Model_head_10 : decode b_Model_head 10 = .ok (.iconst 0, 1) := by decide +kernel
theorem d_Model_head_11 : decode b_Model_head 11 = .ok (.invokevirtual 61, 3) := by decide +kernel
theorem d_Model_head_14 : decode b_Model_head 14 = .ok (.goto 4, 3) := by decide +kernel
theorem d_Model_head_17 : decode b_Model_head 17 = .ok (.iconst (-1), 1) := by decide +kernel
theorem d_Model_head_18 : decode b_Model_head 18 = .ok (.ireturn, 1) := by decide +kernel
theorem d_Model_last_0 : decode b_Model_last 0 = .ok (.iload_n 1, 1) := by decide +kernel
theorem d_Model_last_1 : decode b_Model_last 1 = .ok (.invokestatic 31, 3) := by decide +kernel
theorem d_Model_last_4 : decode b_Model_last 4 = .ok (.ifCond .eq 13, 3) := by decide +kernel
theorem d_Model_last_7 : decode b_Model_last 7 = .ok (.aload_n 0, 1) := by decide +kernel
theorem d_Model_last_8 : decode b_Model_last 8 = .ok (.iconst (-1), 1) := by decide +kernel
theorem d_Model_last_9 : decode b_Model_last 9 = .ok (.iload_n 1, 1) := by decide +kernel
theorem d_Model_last_10 : decode b_Model_last 10 = .ok (.iconst 1, 1) := by decide +kernel
theorem d_Model_last_11 : decode b_Model_last 11 = .ok (.invokevirtual 61, 3) := by decide +kernel
theorem d_Model_last_14 : decode b_Model_last 14 = .ok (.goto 4, 3) := by decide +kernel
theorem d_Model_last_17 : decode b_Model_last 17 = .ok (.iconst (-1), 1) := by decide +kernel
theorem d_Model_last_18 : decode b_Model_last 18 = .ok (.ireturn, 1) := by decide +kernel
theorem d_Model_behind_0 : decode b_Model_behind 0 = .ok (.iload_n 2, 1) := by decide +kernel
theorem d_Model_behind_1 : decode b_Model_behind 1 = .ok (.invokestatic 31, 3) := by decide +kernel
theorem d_Model_behind_4 : decode b_Model_behind 4 = .ok (.ifCond .eq 30, 3) := by decide +kernel
theorem d_Model_behind_7 : decode b_Model_behind 7 = .ok (.aload_n 0, 1) := by decide +kernel
theorem d_Model_behind_8 : decode b_Model_behind 8 = .ok (.iload_n 1, 1) := by decide +kernel
theorem d_Model_behind_9 : decode b_Model_behind 9 = .ok (.invokevirtual 41, 3) := by decide +kernel
theorem d_Model_behind_12 : decode b_Model_behind 12 = .ok (.ifCond .eq 22, 3) := by decide +kernel
theorem d_Model_behind_15 : decode b_Model_behind 15 = .ok (.aload_n 0, 1) := by decide +kernel
theorem d_Model_behind_16 : decode b_Model_behind 16 = .ok (.iload_n 1, 1) := by decide +kernel
theorem d_Model_behind_17 : decode b_Model_behind 17 = .ok (.iload_n 2, 1) := by decide +kernel
theorem d_Model_behind_18 : decode b_Model_behind 18 = .ok (.invokevirtual 34, 3) := by decide +kernel
theorem d_Model_behind_21 : decode b_Model_behind 21 = .ok (.ifCond .eq 13, 3) := by decide +kernel
theorem d_Model_behind_24 : decode b_Model_behind 24 = .ok (.aload_n 0, 1) := by decide +kernel
theorem d_Model_behind_25 : decode b_Model_behind 25 = .ok (.iload_n 1, 1) := by decide +kernel
theorem d_Model_behind_26 : decode b_Model_behind 26 = .ok (.iload_n 2, 1) := by decide +kernel
theorem d_Model_behind_27 : decode b_Model_behind 27 = .ok (.iconst 0, 1) := by decide +kernel
theorem d_Model_behind_28 : decode b_Model_behind 28 = .ok (.invokevirtual 61, 3) := by decide +kernel
theorem d_Model_behind_31 : decode b_Model_behind 31 = .ok (.goto 4, 3) := by decide +kernel
theorem d_Model_behind_34 : decode b_Model_behind 34 = .ok (.iconst (-1), 1) := by decide +kernel
theorem d_Model_behind_35 : decode b_Model_behind 35 = .ok (.ireturn, 1) := by decide +kernel
theorem d_Model_size_0 : decode b_Model_size 0 = .ok (.iload_n 1, 1) := by decide +kernel
theorem d_Model_size_1 : decode b_Model_size 1 = .ok (.iconst (-1), 1) := by decide +kernel
theorem d_Model_size_2 : decode b_Model_size 2 = .ok (.if_icmp .eq 12, 3) := by decide +kernel
theorem d_Model_size_5 : decode b_Model_size 5 = .ok (.iload_n 1, 1) := by decide +kernel
theorem d_Model_size_6 : decode b_Model_size 6 = .ok (.invokestatic 31, 3) := by decide +kernel
theorem d_Model_size_9 : decode b_Model_size 9 = .ok (.ifCond .ne 5, 3) := by decide +kernel
theorem d_Model_size_12 : decode b_Model_size 12 = .ok (.iconst (-1), 1) := by decide +kernel
theorem d_Model_size_13 : decode b_Model_size 13 = .ok (.ireturn, 1) := by decide +kernel
theorem d_Model_size_14 : decode b_Model_size 14 = .ok (.iconst 0, 1) := by decide +kernel
theorem d_Model_size_15 : decode b_Model_size 15 = .ok (.istore_n 2, 1) := by decide +kernel
theorem d_Model_size_16 : decode b_Model_size 16 = .ok (.iconst 0, 1) := by decide +kernel
theorem d_Model_size_17 : decode b_Model_size 17 = .ok (.istore_n 3, 1) := by decide +kernel
theorem d_Model_size_18 : decode b_Model_size 18 = .ok (.iload_n 3, 1) := by decide +kernel
theorem d_Model_size_19 : decode b_Model_size 19 = .ok (.sipush 200, 3) := by decide +kernel
theorem d_Model_size_22 : decode b_Model_size 22 = .ok (.if_icmp .ge 26, 3) := by decide +kernel
theorem d_Model_size_25 : decode b_Model_size 25 = .ok (.iload_n 2, 1) := by decide +kernel
theorem d_Model_size_26 : decode b_Model_size 26 = .ok (.aload_n 0, 1) := by decide +kernel
theorem d_Model_size_27 : decode b_Model_size 27 = .ok (.iload_n 3, 1) := by decide +kernel
theorem d_Model_size_28 : decode b_Model_size 28 = .ok (.iload_n 1, 1) := by decide +kernel
theorem d_Model_size_29 : decode b_Model_size 29 = .ok (.invokevirtual 55, 3) := by decide +kernel
theorem d_Model_size_32 : decode b_Model_size 32 = .ok (.ifCond .eq 7, 3) := by decide +kernel
theorem d_Model_size_35 : decode b_Model_size 35 = .ok (.iconst 1, 1) := by decide +kernel
theorem d_Model_size_36 : decode b_Model_size 36 = .ok (.goto 4, 3) := by decide +kernel
theorem d_Model_size_39 : decode b_Model_size 39 = .ok (.iconst 0, 1) := by decide +kernel
theorem d_Model_size_40 : decode b_Model_size 40 = .ok (.iadd, 1) := by decide +kernel
theorem d_Model_size_41 : decode b_Model_size 41 = .ok (.istore_n 2, 1) := by decide +kernel
theorem d_Model_size_42 : decode b_Model_size 42 = .ok (.iinc 3 1, 3) := by decide +kernel
theorem d_Model_size_45 : decode b_Model_size 45 = .ok (.goto (-27), 3) := by decide +kernel
theorem d_Model_size_48 : decode b_Model_size 48 = .ok (.iload_n 2, 1) := by decide +kernel
theorem d_Model_size_49 : decode b_Model_size 49 = .ok (.ireturn, 1) := by decide +kernel
theorem d_Model_look_0 : decode b_Model_look 0 = .ok (.iload_n 1, 1) := by decide +kernel
theorem d_Model_look_1 : decode b_Model_look 1 = .ok (.invokestatic 26, 3) := by decide +kernel
theorem d_Model_look_4 : decode b_Model_look 4 = .ok (.ifCond .ne 5, 3) := by decide +kernel
theorem d_Model_look_7 : decode b_Model_look 7 = .ok (.iconst (-1), 1) := by decide +kernel
theorem d_Model_look_8 : decode b_Model_look 8 = .ok (.ireturn, 1) := by decide +kernel
theorem d_Model_look_9 : decode b_Model_look 9 = .ok (.iload_n 2, 1) := by decide +kernel
theorem d_Model_look_10 : decode b_Model_look 10 = .ok (.tableswitch 92 0 3 #[30, 45, 65, 85], 30) := by decide +kernel
theorem d_Model_look_40 : decode b_Model_look 40 = .ok (.aload_n 0, 1) := by decide +kernel
theorem d_Model_look_41 : decode b_Model_look 41 = .ok (.getfield 7, 3) := by decide +kernel
theorem d_Model_look_44 : decode b_Model_look 44 = .ok (.iload_n 1, 1) := by decide +kernel
theorem d_Model_look_45 : decode b_Model_look 45 = .ok (.baload, 1) := by decide +kernel
theorem d_Model_look_46 : decode b_Model_look 46 = .ok (.ifCond .eq 7, 3) := by decide +kernel
theorem d_Model_look_49 : decode b_Model_look 49 = .ok (.iconst 1, 1) := by decide +kernel
theorem d_Model_look_50 : decode b_Model_look 50 = .ok (.goto 4, 3) := by decide +kernel
theorem d_Model_look_53 : decode b_Model_look 53 = .ok (.iconst 0, 1) := by decide +kernel
theorem d_Model_look_54 : decode b_Model_look 54 = .ok (.ireturn, 1) := by decide +kernel
theorem d_Model_look_55 : decode b_Model_look 55 = .ok (.aload_n 0, 1) := by decide +kernel
theorem d_Model_look_56 : decode b_Model_look 56 = .ok (.getfield 7, 3) := by decide +kernel
theorem d_Model_look_59 : decode b_Model_look 59 = .ok (.iload_n 1, 1) := by decide +kernel
theorem d_Model_look_60 : decode b_Model_look 60 = .ok (.baload, 1) := by decide +kernel
theorem d_Model_look_61 : decode b_Model_look 61 = .ok (.ifCond .eq 12, 3) := by decide +kernel
theorem d_Model_look_64 : decode b_Model_look 64 = .ok (.aload_n 0, 1) := by decide +kernel
theorem d_Model_look_65 : decode b_Model_look 65 = .ok (.getfield 13, 3) := by decide +kernel
theorem d_Model_look_68 : decode b_Model_look 68 = .ok (.iload_n 1, 1) := by decide +kernel
theorem d_Model_look_69 : decode b_Model_look 69 = .ok (.iaload, 1) := by decide +kernel
theorem d_Model_look_70 : decode b_Model_look 70 = .ok (.goto 4, 3) := by decide +kernel
theorem d_Model_look_73 : decode b_Model_look 73 = .ok (.iconst 0, 1) := by decide +kernel
theorem d_Model_look_74 : decode b_Model_look 74 = .ok (.ireturn, 1) := by decide +kernel
theorem d_Model_look_75 : decode b_Model_look 75 = .ok (.aload_n 0, 1) := by decide +kernel
theorem d_Model_look_76 : decode b_Model_look 76 = .ok (.getfield 7, 3) := by decide +kernel
theorem d_Model_look_79 : decode b_Model_look 79 = .ok (.iload_n 1, 1) := by decide +kernel
theorem d_Model_look_80 : decode b_Model_look 80 = .ok (.baload, 1) := by decide +kernel
theorem d_Model_look_81 : decode b_Model_look 81 = .ok (.ifCond .eq 12, 3) := by decide +kernel
theorem d_Model_look_84 : decode b_Model_look 84 = .ok (.aload_n 0, 1) := by decide +kernel
theorem d_Model_look_85 : decode b_Model_look 85 = .ok (.getfield 17, 3) := by decide +kernel
theorem d_Model_look_88 : decode b_Model_look 88 = .ok (.iload_n 1, 1) := by decide +kernel
theorem d_Model_look_89 : decode b_Model_look 89 = .ok (.iaload, 1) := by decide +kernel
theorem d_Model_look_90 : decode b_Model_look 90 = .ok (.goto 4, 3) := by decide +kernel
theorem d_Model_look_93 : decode b_Model_look 93 = .ok (.iconst 0, 1) := by decide +kernel
theorem d_Model_look_94 : decode b_Model_look 94 = .ok (.ireturn, 1) := by decide +kernel
theorem d_Model_look_95 : decode b_Model_look 95 = .ok (.aload_n 0, 1) := by decide +kernel
theorem d_Model_look_96 : decode b_Model_look 96 = .ok (.getfield 20, 3) := by decide +kernel
theorem d_Model_look_99 : decode b_Model_look 99 = .ok (.iload_n 1, 1) := by decide +kernel
theorem d_Model_look_100 : decode b_Model_look 100 = .ok (.iaload, 1) := by decide +kernel
theorem d_Model_look_101 : decode b_Model_look 101 = .ok (.ireturn, 1) := by decide +kernel
theorem d_Model_look_102 : decode b_Model_look 102 = .ok (.iload_n 2, 1) := by decide +kernel
theorem d_Model_look_103 : decode b_Model_look 103 = .ok (.iconst 3, 1) := by decide +kernel
theorem d_Model_look_104 : decode b_Model_look 104 = .ok (.if_icmp .le 31, 3) := by decide +kernel
theorem d_Model_look_107 : decode b_Model_look 107 = .ok (.iload_n 2, 1) := by decide +kernel
theorem d_Model_look_108 : decode b_Model_look 108 = .ok (.iconst 4, 1) := by decide +kernel
theorem d_Model_look_109 : decode b_Model_look 109 = .ok (.isub, 1) := by decide +kernel
theorem d_Model_look_110 : decode b_Model_look 110 = .ok (.aload_n 0, 1) := by decide +kernel
theorem d_Model_look_111 : decode b_Model_look 111 = .ok (.getfield 20, 3) := by decide +kernel
theorem d_Model_look_114 : decode b_Model_look 114 = .ok (.iload_n 1, 1) := by decide +kernel
theorem d_Model_look_115 : decode b_Model_look 115 = .ok (.iaload, 1) := by decide +kernel
theorem d_Model_look_116 : decode b_Model_look 116 = .ok (.if_icmp .ge 19, 3) := by decide +kernel
theorem d_Model_look_119 : decode b_Model_look 119 = .ok (.aload_n 0, 1) := by decide +kernel
theorem d_Model_look_120 : decode b_Model_look 120 = .ok (.getfield 23, 3) := by decide +kernel
theorem d_Model_look_123 : decode b_Model_look 123 = .ok (.bipush 8, 2) := by decide +kernel
theorem d_Model_look_125 : decode b_Model_look 125 = .ok (.iload_n 1, 1) := by decide +kernel
theorem d_Model_look_126 : decode b_Model_look 126 = .ok (.imul, 1) := by decide +kernel
theorem d_Model_look_127 : decode b_Model_look 127 = .ok (.iload_n 2, 1) := by decide +kernel
theorem d_Model_look_128 : decode b_Model_look 128 = .ok (.iadd, 1) := by decide +kernel
theorem d_Model_look_129 : decode b_Model_look 129 = .ok (.iconst 4, 1) := by decide +kernel
theorem d_Model_look_130 : decode b_Model_look 130 = .ok (.isub, 1) := by decide +kernel
theorem d_Model_look_131 : decode b_Model_look 131 = .ok (.iaload, 1) := by decide +kernel
theorem d_Model_look_132 : decode b_Model_look 132 = .ok (.goto 4, 3) := by decide +kernel
theorem d_Model_look_135 : decode b_Model_look 135 = .ok (.iconst (-1), 1) := by decide +kernel
theorem d_Model_look_136 : decode b_Model_look 136 = .ok (.ireturn, 1) := by decide +kernel
theorem d_Model_lines_0 : decode b_Model_lines 0 = .ok (.iconst 0, 1) := by decide +kernel
theorem d_Model_lines_1 : decode b_Model_lines 1 = .ok (.istore_n 1, 1) := by decide +kernel
theorem d_Model_lines_2 : decode b_Model_lines 2 = .ok (.iconst 0, 1) := by decide +kernel
theorem d_Model_lines_3 : decode b_Model_lines 3 = .ok (.istore_n 2, 1) := by decide +kernel
theorem d_Model_lines_4 : decode b_Model_lines 4 = .ok (.iload_n 2, 1) := by decide +kernel
theorem d_Model_lines_5 : decode b_Model_lines 5 = .ok (.sipush 200, 3) := by decide +kernel
theorem d_Model_lines_8 : decode b_Model_lines 8 = .ok (.if_icmp .ge 52, 3) := by decide +kernel
theorem d_Model_lines_11 : decode b_Model_lines 11 = .ok (.iconst 0, 1) := by decide +kernel
theorem d_Model_lines_12 : decode b_Model_lines 12 = .ok (.istore_n 3, 1) := by decide +kernel
theorem d_Model_lines_13 : decode b_Model_lines 13 = .ok (.iload_n 3, 1) := by decide +kernel
theorem d_Model_lines_14 : decode b_Model_lines 14 = .ok (.aload_n 0, 1) := by decide +kernel
theorem d_Model_lines_15 : decode b_Model_lines 15 = .ok (.getfield 20, 3) := by decide +kernel
theorem d_Model_lines_18 : decode b_Model_lines 18 = .ok (.iload_n 2, 1) := by decide +kernel
theorem d_Model_lines_19 : decode b_Model_lines 19 = .ok (.iaload, 1) := by decide +kernel
theorem d_Model_lines_20 : decode b_Model_lines 20 = .ok (.if_icmp .ge 34, 3) := by decide +kernel
theorem d_Model_lines_23 : decode b_Model_lines 23 = .ok (.aload_n 0, 1) := by decide +kernel
theorem d_Model_lines_24 : decode b_Model_lines 24 = .ok (.iconst (-1), 1) := by decide +kernel
theorem d_Model_lines_25 : decode b_Model_lines 25 = .ok (.aload_n 0, 1) := by decide +kernel
theorem d_Model_lines_26 : decode b_Model_lines 26 = .ok (.getfield 23, 3) := by decide +kernel
theorem d_Model_lines_29 : decode b_Model_lines 29 = .ok (.bipush 8, 2) := by decide +kernel
theorem d_Model_lines_31 : decode b_Model_lines 31 = .ok (.iload_n 2, 1) := by decide +kernel
theorem d_Model_lines_32 : decode b_Model_lines 32 = .ok (.imul, 1) := by decide +kernel
theorem d_Model_lines_33 : decode b_Model_lines 33 = .ok (.iload_n 3, 1) := by decide +kernel
theorem d_Model_lines_34 : decode b_Model_lines 34 = .ok (.iadd, 1) := by decide +kernel
theorem d_Model_lines_35 : decode b_Model_lines 35 = .ok (.iaload, 1) := by decide +kernel
theorem d_Model_lines_36 : decode b_Model_lines 36 = .ok (.iconst 0, 1) := by decide +kernel
theorem d_Model_lines_37 : decode b_Model_lines 37 = .ok (.invokevirtual 61, 3) := by decide +kernel
theorem d_Model_lines_40 : decode b_Model_lines 40 = .ok (.iload_n 2, 1) := by decide +kernel
theorem d_Model_lines_41 : decode b_Model_lines 41 = .ok (.if_icmp .ne 7, 3) := by decide +kernel
theorem d_Model_lines_44 : decode b_Model_lines 44 = .ok (.iload_n 1, 1) := by decide +kernel
theorem d_Model_lines_45 : decode b_Model_lines 45 = .ok (.iconst 1, 1) := by decide +kernel
theorem d_Model_lines_46 : decode b_Model_lines 46 = .ok (.iadd, 1) := by decide +kernel
theorem d_Model_lines_47 : decode b_Model_lines 47 = .ok (.istore_n 1, 1) := by decide +kernel
theorem d_Model_lines_48 : decode b_Model_lines 48 = .ok (.iinc 3 1, 3) := by decide +kernel
theorem d_Model_lines_51 : decode b_Model_lines 51 = .ok (.goto (-38), 3) := by decide +kernel
theorem d_Model_lines_54 : decode b_Model_lines 54 = .ok (.iinc 2 1, 3) := by decide +kernel
theorem d_Model_lines_57 : decode b_Model_lines 57 = .ok (.goto (-53), 3) := by decide +kernel
theorem d_Model_lines_60 : decode b_Model_lines 60 = .ok (.iload_n 1, 1) := by decide +kernel
theorem d_Model_lines_61 : decode b_Model_lines 61 = .ok (.ireturn, 1) := by decide +kernel
theorem d_Item_init_0 : decode b_Item_init 0 = .ok (.aload_n 0, 1) := by decide +kernel
theorem d_Item_init_1 : decode b_Item_init 1 = .ok (.invokespecial 1, 3) := by decide +kernel
theorem d_Item_init_4 : decode b_Item_init 4 = .ok (.aload_n 0, 1) := by decide +kernel
theorem d_Item_init_5 : decode b_Item_init 5 = .ok (.bipush 8, 2) := by decide +kernel
theorem d_Item_init_7 : decode b_Item_init 7 = .ok (.anewarray 9, 3) := by decide +kernel
theorem d_Item_init_10 : decode b_Item_init 10 = .ok (.putfield 11, 3) := by decide +kernel
theorem d_Item_init_13 : decode b_Item_init 13 = .ok (.aload_n 0, 1) := by decide +kernel
theorem d_Item_init_14 : decode b_Item_init 14 = .ok (.iload_n 1, 1) := by decide +kernel
theorem d_Item_init_15 : decode b_Item_init 15 = .ok (.putfield 15, 3) := by decide +kernel
theorem d_Item_init_18 : decode b_Item_init 18 = .ok (.iconst 0, 1) := by decide +kernel
theorem d_Item_init_19 : decode b_Item_init 19 = .ok (.istore_n 2, 1) := by decide +kernel
theorem d_Item_init_20 : decode b_Item_init 20 = .ok (.iload_n 2, 1) := by decide +kernel
theorem d_Item_init_21 : decode b_Item_init 21 = .ok (.bipush 8, 2) := by decide +kernel
theorem d_Item_init_23 : decode b_Item_init 23 = .ok (.if_icmp .ge 22, 3) := by decide +kernel
theorem d_Item_init_26 : decode b_Item_init 26 = .ok (.aload_n 0, 1) := by decide +kernel
theorem d_Item_init_27 : decode b_Item_init 27 = .ok (.getfield 11, 3) := by decide +kernel
theorem d_Item_init_30 : decode b_Item_init 30 = .ok (.iload_n 2, 1) := by decide +kernel
theorem d_Item_init_31 : decode b_Item_init 31 = .ok (.new 9, 3) := by decide +kernel
theorem d_Item_init_34 : decode b_Item_init 34 = .ok (.dup, 1) := by decide +kernel
theorem d_Item_init_35 : decode b_Item_init 35 = .ok (.invokespecial 19, 3) := by decide +kernel
theorem d_Item_init_38 : decode b_Item_init 38 = .ok (.aastore, 1) := by decide +kernel
theorem d_Item_init_39 : decode b_Item_init 39 = .ok (.iinc 2 1, 3) := by decide +kernel
theorem d_Item_init_42 : decode b_Item_init 42 = .ok (.goto (-22), 3) := by decide +kernel
theorem d_Item_init_45 : decode b_Item_init 45 = .ok (.return_, 1) := by decide +kernel
theorem d_Item_begin_0 : decode b_Item_begin 0 = .ok (.iconst 0, 1) := by decide +kernel
theorem d_Item_begin_1 : decode b_Item_begin 1 = .ok (.istore_n 1, 1) := by decide +kernel
theorem d_Item_begin_2 : decode b_Item_begin 2 = .ok (.iload_n 1, 1) := by decide +kernel
theorem d_Item_begin_3 : decode b_Item_begin 3 = .ok (.bipush 8, 2) := by decide +kernel
theorem d_Item_begin_5 : decode b_Item_begin 5 = .ok (.if_icmp .ge 19, 3) := by decide +kernel
theorem d_Item_begin_8 : decode b_Item_begin 8 = .ok (.aload_n 0, 1) := by decide +kernel
theorem d_Item_begin_9 : decode b_Item_begin 9 = .ok (.getfield 11, 3) := by decide +kernel
theorem d_Item_begin_12 : decode b_Item_begin 12 = .ok (.iload_n 1, 1) := by decide +kernel
theorem d_Item_begin_13 : decode b_Item_begin 13 = .ok (.aaload, 1) := by decide +kernel
theorem d_Item_begin_14 : decode b_Item_begin 14 = .ok (.aload_n 0, 1) := by decide +kernel
theorem d_Item_begin_15 : decode b_Item_begin 15 = .ok (.putfield 20, 3) := by decide +kernel
theorem d_Item_begin_18 : decode b_Item_begin 18 = .ok (.iinc 1 1, 3) := by decide +kernel
theorem d_Item_begin_21 : decode b_Item_begin 21 = .ok (.goto (-19), 3) := by decide +kernel
theorem d_Item_begin_24 : decode b_Item_begin 24 = .ok (.return_, 1) := by decide +kernel
theorem d_Item_isBefore_0 : decode b_Item_isBefore 0 = .ok (.aload_n 0, 1) := by decide +kernel
theorem d_Item_isBefore_1 : decode b_Item_isBefore 1 = .ok (.getfield 24, 3) := by decide +kernel
theorem d_Item_isBefore_4 : decode b_Item_isBefore 4 = .ok (.aload_n 1, 1) := by decide +kernel
theorem d_Item_isBefore_5 : decode b_Item_isBefore 5 = .ok (.getfield 24, 3) := by decide +kernel
theorem d_Item_isBefore_8 : decode b_Item_isBefore 8 = .ok (.if_icmp .lt 25, 3) := by decide +kernel
theorem d_Item_isBefore_11 : decode b_Item_isBefore 11 = .ok (.aload_n 0, 1) := by decide +kernel
theorem d_Item_isBefore_12 : decode b_Item_isBefore 12 = .ok (.getfield 24, 3) := by decide +kernel
theorem d_Item_isBefore_15 : decode b_Item_isBefore 15 = .ok (.aload_n 1, 1) := by decide +kernel
theorem d_Item_isBefore_16 : decode b_Item_isBefore 16 = .ok (.getfield 24, 3) := by decide +kernel
theorem d_Item_isBefore_19 : decode b_Item_isBefore 19 = .ok (.if_icmp .ne 18, 3) := by decide +kernel
theorem d_Item_isBefore_22 : decode b_Item_isBefore 22 = .ok (.aload_n 0, 1) := by decide +kernel
theorem d_Item_isBefore_23 : decode b_Item_isBefore 23 = .ok (.getfield 27, 3) := by decide +kernel
theorem d_Item_isBefore_26 : decode b_Item_isBefore 26 = .ok (.aload_n 1, 1) := by decide +kernel
theorem d_Item_isBefore_27 : decode b_Item_isBefore 27 = .ok (.getfield 27, 3) := by decide +kernel
theorem d_Item_isBefore_30 : decode b_Item_isBefore 30 = .ok (.if_icmp .ge 7, 3) := by decide +kernel
theorem d_Item_isBefore_33 : decode b_Item_isBefore 33 = .ok (.iconst 1, 1) := by decide +kernel
theorem d_Item_isBefore_34 : decode b_Item_isBefore 34 = .ok (.goto 4, 3) := by decide +kernel
theorem d_Item_isBefore_37 : decode b_Item_isBefore 37 = .ok (.iconst 0, 1) := by decide +kernel
theorem d_Item_isBefore_38 : decode b_Item_isBefore 38 = .ok (.ireturn, 1) := by decide +kernel
theorem d_Item_of_0 : decode b_Item_of 0 = .ok (.iconst 0, 1) := by decide +kernel
theorem d_Item_of_1 : decode b_Item_of 1 = .ok (.istore_n 2, 1) := by decide +kernel
theorem d_Item_of_2 : decode b_Item_of 2 = .ok (.iload_n 2, 1) := by decide +kernel
theorem d_Item_of_3 : decode b_Item_of 3 = .ok (.aload_n 0, 1) := by decide +kernel
theorem d_Item_of_4 : decode b_Item_of 4 = .ok (.getfield 30, 3) := by decide +kernel
theorem d_Item_of_7 : decode b_Item_of 7 = .ok (.if_icmp .ge 29, 3) := by decide +kernel
theorem d_Item_of_10 : decode b_Item_of 10 = .ok (.aload_n 0, 1) := by decide +kernel
theorem d_Item_of_11 : decode b_Item_of 11 = .ok (.getfield 11, 3) := by decide +kernel
theorem d_Item_of_14 : decode b_Item_of 14 = .ok (.iload_n 2, 1) := by decide +kernel
theorem d_Item_of_15 : decode b_Item_of 15 = .ok (.aaload, 1) := by decide +kernel
theorem d_Item_of_16 : decode b_Item_of 16 = .ok (.getfield 33, 3) := by decide +kernel
theorem d_Item_of_19 : decode b_Item_of 19 = .ok (.iload_n 1, 1) := by decide +kernel
theorem d_Item_of_20 : decode b_Item_of 20 = .ok (.if_icmp .ne 10, 3) := by decide +kernel
theorem d_Item_of_23 : decode b_Item_of 23 = .ok (.aload_n 0, 1) := by decide +kernel
theorem d_Item_of_24 : decode b_Item_of 24 = .ok (.getfield 11, 3) := by decide +kernel
theorem d_Item_of_27 : decode b_Item_of 27 = .ok (.iload_n 2, 1) := by decide +kernel
theorem d_Item_of_28 : decode b_Item_of 28 = .ok (.aaload, 1) := by decide +kernel
theorem d_Item_of_29 : decode b_Item_of 29 = .ok (.areturn, 1) := by decide +kernel
theorem d_Item_of_30 : decode b_Item_of 30 = .ok (.iinc 2 1, 3) := by decide +kernel
theorem d_Item_of_33 : decode b_Item_of 33 = .ok (.goto (-31), 3) := by decide +kernel
theorem d_Item_of_36 : decode b_Item_of 36 = .ok (.aconst_null, 1) := by decide +kernel
theorem d_Item_of_37 : decode b_Item_of 37 = .ok (.areturn, 1) := by decide +kernel
theorem d_Item_take_0 : decode b_Item_take 0 = .ok (.aload_n 0, 1) := by decide +kernel
theorem d_Item_take_1 : decode b_Item_take 1 = .ok (.getfield 30, 3) := by decide +kernel
theorem d_Item_take_4 : decode b_Item_take 4 = .ok (.bipush 8, 2) := by decide +kernel
theorem d_Item_take_6 : decode b_Item_take 6 = .ok (.if_icmp .eq 11, 3) := by decide +kernel
theorem d_Item_take_9 : decode b_Item_take 9 = .ok (.aload_n 0, 1) := by decide +kernel
theorem d_Item_take_10 : decode b_Item_take 10 = .ok (.iload_n 1, 1) := by decide +kernel
theorem d_Item_take_11 : decode b_Item_take 11 = .ok (.invokevirtual 36, 3) := by decide +kernel
theorem d_Item_take_14 : decode b_Item_take 14 = .ok (.ifnull 5, 3) := by decide +kernel
theorem d_Item_take_17 : decode b_Item_take 17 = .ok (.iconst 0, 1) := by decide +kernel
theorem d_Item_take_18 : decode b_Item_take 18 = .ok (.ireturn, 1) := by decide +kernel
theorem d_Item_take_19 : decode b_Item_take 19 = .ok (.aload_n 0, 1) := by decide +kernel
theorem d_Item_take_20 : decode b_Item_take 20 = .ok (.getfield 11, 3) := by decide +kernel
theorem d_Item_take_23 : decode b_Item_take 23 = .ok (.aload_n 0, 1) := by decide +kernel
theorem d_Item_take_24 : decode b_Item_take 24 = .ok (.getfield 30, 3) := by decide +kernel
theorem d_Item_take_27 : decode b_Item_take 27 = .ok (.aaload, 1) := by decide +kernel
theorem d_Item_take_28 : decode b_Item_take 28 = .ok (.iload_n 1, 1) := by decide +kernel
theorem d_Item_take_29 : decode b_Item_take 29 = .ok (.putfield 33, 3) := by decide +kernel
theorem d_Item_take_32 : decode b_Item_take 32 = .ok (.aload_n 0, 1) := by decide +kernel
theorem d_Item_take_33 : decode b_Item_take 33 = .ok (.dup, 1) := by decide +kernel
theorem d_Item_take_34 : decode b_Item_take 34 = .ok (.getfield 30, 3) := by decide +kernel
theorem d_Item_take_37 : decode b_Item_take 37 = .ok (.iconst 1, 1) := by decide +kernel
theorem d_Item_take_38 : decode b_Item_take 38 = .ok (.iadd, 1) := by decide +kernel
theorem d_Item_take_39 : decode b_Item_take 39 = .ok (.putfield 30, 3) := by decide +kernel
theorem d_Item_take_42 : decode b_Item_take 42 = .ok (.iconst 1, 1) := by decide +kernel
theorem d_Item_take_43 : decode b_Item_take 43 = .ok (.ireturn, 1) := by decide +kernel
theorem d_Item_forget_0 : decode b_Item_forget 0 = .ok (.iconst 0, 1) := by decide +kernel
theorem d_Item_forget_1 : decode b_Item_forget 1 = .ok (.istore_n 2, 1) := by decide +kernel
theorem d_Item_forget_2 : decode b_Item_forget 2 = .ok (.aload_n 0, 1) := by decide +kernel
theorem d_Item_forget_3 : decode b_Item_forget 3 = .ok (.getfield 11, 3) := by decide +kernel
theorem d_Item_forget_6 : decode b_Item_forget 6 = .ok (.iload_n 2, 1) := by decide +kernel
theorem d_Item_forget_7 : decode b_Item_forget 7 = .ok (.aaload, 1) := by decide +kernel
theorem d_Item_forget_8 : decode b_Item_forget 8 = .ok (.aload_n 1, 1) := by decide +kernel
theorem d_Item_forget_9 : decode b_Item_forget 9 = .ok (.if_acmp .eq 9, 3) := by decide +kernel
theorem d_Item_forget_12 : decode b_Item_forget 12 = .ok (.iinc 2 1, 3) := by decide +kernel
theorem d_Item_forget_15 : decode b_Item_forget 15 = .ok (.goto (-13), 3) := by decide +kernel
theorem d_Item_forget_18 : decode b_Item_forget 18 = .ok (.aload_n 0, 1) := by decide +kernel
theorem d_Item_forget_19 : decode b_Item_forget 19 = .ok (.dup, 1) := by decide +kernel
theorem d_Item_forget_20 : decode b_Item_forget 20 = .ok (.getfield 30, 3) := by decide +kernel
theorem d_Item_forget_23 : decode b_Item_forget 23 = .ok (.iconst 1, 1) := by decide +kernel
end
section
theorem d_Item_forget_24 : decode b_Item_forget 24 = .ok (.isub, 1) := by decide +kernel
theorem d_Item_forget_25 : decode b_Item_forget 25 = .ok (.putfield 30, 3) := by decide +kernel
theorem d_Item_forget_28 : decode b_Item_forget 28 = .ok (.iload_n 2, 1) := by decide +kernel
theorem d_Item_forget_29 : decode b_Item_forget 29 = .ok (.aload_n 0, 1) := by decide +kernel
theorem d_Item_forget_30 : decode b_Item_forget 30 = .ok (.getfield 30, 3) := by decide +kernel
theorem d_Item_forget_33 : decode b_Item_forget 33 = .ok (.if_icmp .ge 23, 3) := by decide +kernel
theorem d_Item_forget_36 : decode b_Item_forget 36 = .ok (.aload_n 0, 1) := by decide +kernel
theorem d_Item_forget_37 : decode b_Item_forget 37 = .ok (.getfield 11, 3) := by decide +kernel
theorem d_Item_forget_40 : decode b_Item_forget 40 = .ok (.iload_n 2, 1) := by decide +kernel
theorem d_Item_forget_41 : decode b_Item_forget 41 = .ok (.aload_n 0, 1) := by decide +kernel
theorem d_Item_forget_42 : decode b_Item_forget 42 = .ok (.getfield 11, 3) := by decide +kernel
theorem d_Item_forget_45 : decode b_Item_forget 45 = .ok (.iload_n 2, 1) := by decide +kernel
theorem d_Item_forget_46 : decode b_Item_forget 46 = .ok (.iconst 1, 1) := by decide +kernel
theorem d_Item_forget_47 : decode b_Item_forget 47 = .ok (.iadd, 1) := by decide +kernel
theorem d_Item_forget_48 : decode b_Item_forget 48 = .ok (.aaload, 1) := by decide +kernel
theorem d_Item_forget_49 : decode b_Item_forget 49 = .ok (.aastore, 1) := by decide +kernel
theorem d_Item_forget_50 : decode b_Item_forget 50 = .ok (.iinc 2 1, 3) := by decide +kernel
theorem d_Item_forget_53 : decode b_Item_forget 53 = .ok (.goto (-25), 3) := by decide +kernel
theorem d_Item_forget_56 : decode b_Item_forget 56 = .ok (.aload_n 0, 1) := by decide +kernel
theorem d_Item_forget_57 : decode b_Item_forget 57 = .ok (.getfield 11, 3) := by decide +kernel
theorem d_Item_forget_60 : decode b_Item_forget 60 = .ok (.aload_n 0, 1) := by decide +kernel
theorem d_Item_forget_61 : decode b_Item_forget 61 = .ok (.getfield 30, 3) := by decide +kernel
theorem d_Item_forget_64 : decode b_Item_forget 64 = .ok (.aload_n 1, 1) := by decide +kernel
theorem d_Item_forget_65 : decode b_Item_forget 65 = .ok (.aastore, 1) := by decide +kernel
theorem d_Item_forget_66 : decode b_Item_forget 66 = .ok (.return_, 1) := by decide +kernel
theorem d_Line_init_0 : decode b_Line_init 0 = .ok (.aload_n 0, 1) := by decide +kernel
theorem d_Line_init_1 : decode b_Line_init 1 = .ok (.invokespecial 1, 3) := by decide +kernel
theorem d_Line_init_4 : decode b_Line_init 4 = .ok (.return_, 1) := by decide +kernel
theorem d_Line_insert_0 : decode b_Line_insert 0 = .ok (.aload_n 0, 1) := by decide +kernel
theorem d_Line_insert_1 : decode b_Line_insert 1 = .ok (.getfield 7, 3) := by decide +kernel
theorem d_Line_insert_4 : decode b_Line_insert 4 = .ok (.astore_n 2, 1) := by decide +kernel
theorem d_Line_insert_5 : decode b_Line_insert 5 = .ok (.aload_n 2, 1) := by decide +kernel
theorem d_Line_insert_6 : decode b_Line_insert 6 = .ok (.ifnull 25, 3) := by decide +kernel
theorem d_Line_insert_9 : decode b_Line_insert 9 = .ok (.aload_n 1, 1) := by decide +kernel
theorem d_Line_insert_10 : decode b_Line_insert 10 = .ok (.getfield 13, 3) := by decide +kernel
theorem d_Line_insert_13 : decode b_Line_insert 13 = .ok (.aload_n 2, 1) := by decide +kernel
theorem d_Line_insert_14 : decode b_Line_insert 14 = .ok (.getfield 13, 3) := by decide +kernel
theorem d_Line_insert_17 : decode b_Line_insert 17 = .ok (.invokevirtual 19, 3) := by decide +kernel
theorem d_Line_insert_20 : decode b_Line_insert 20 = .ok (.ifCond .eq 11, 3) := by decide +kernel
theorem d_Line_insert_23 : decode b_Line_insert 23 = .ok (.aload_n 2, 1) := by decide +kernel
theorem d_Line_insert_24 : decode b_Line_insert 24 = .ok (.getfield 25, 3) := by decide +kernel
theorem d_Line_insert_27 : decode b_Line_insert 27 = .ok (.astore_n 2, 1) := by decide +kernel
theorem d_Line_insert_28 : decode b_Line_insert 28 = .ok (.goto (-23), 3) := by decide +kernel
theorem d_Line_insert_31 : decode b_Line_insert 31 = .ok (.aload_n 1, 1) := by decide +kernel
theorem d_Line_insert_32 : decode b_Line_insert 32 = .ok (.aload_n 0, 1) := by decide +kernel
theorem d_Line_insert_33 : decode b_Line_insert 33 = .ok (.putfield 28, 3) := by decide +kernel
theorem d_Line_insert_36 : decode b_Line_insert 36 = .ok (.aload_n 1, 1) := by decide +kernel
theorem d_Line_insert_37 : decode b_Line_insert 37 = .ok (.aload_n 2, 1) := by decide +kernel
theorem d_Line_insert_38 : decode b_Line_insert 38 = .ok (.putfield 25, 3) := by decide +kernel
theorem d_Line_insert_41 : decode b_Line_insert 41 = .ok (.aload_n 1, 1) := by decide +kernel
theorem d_Line_insert_42 : decode b_Line_insert 42 = .ok (.aload_n 2, 1) := by decide +kernel
theorem d_Line_insert_43 : decode b_Line_insert 43 = .ok (.ifnonnull 10, 3) := by decide +kernel
theorem d_Line_insert_46 : decode b_Line_insert 46 = .ok (.aload_n 0, 1) := by decide +kernel
theorem d_Line_insert_47 : decode b_Line_insert 47 = .ok (.getfield 32, 3) := by decide +kernel
theorem d_Line_insert_50 : decode b_Line_insert 50 = .ok (.goto 7, 3) := by decide +kernel
theorem d_Line_insert_53 : decode b_Line_insert 53 = .ok (.aload_n 2, 1) := by decide +kernel
theorem d_Line_insert_54 : decode b_Line_insert 54 = .ok (.getfield 35, 3) := by decide +kernel
theorem d_Line_insert_57 : decode b_Line_insert 57 = .ok (.putfield 35, 3) := by decide +kernel
theorem d_Line_insert_60 : decode b_Line_insert 60 = .ok (.aload_n 1, 1) := by decide +kernel
theorem d_Line_insert_61 : decode b_Line_insert 61 = .ok (.getfield 25, 3) := by decide +kernel
theorem d_Line_insert_64 : decode b_Line_insert 64 = .ok (.ifnonnull 11, 3) := by decide +kernel
theorem d_Line_insert_67 : decode b_Line_insert 67 = .ok (.aload_n 0, 1) := by decide +kernel
theorem d_Line_insert_68 : decode b_Line_insert 68 = .ok (.aload_n 1, 1) := by decide +kernel
theorem d_Line_insert_69 : decode b_Line_insert 69 = .ok (.putfield 32, 3) := by decide +kernel
theorem d_Line_insert_72 : decode b_Line_insert 72 = .ok (.goto 11, 3) := by decide +kernel
theorem d_Line_insert_75 : decode b_Line_insert 75 = .ok (.aload_n 1, 1) := by decide +kernel
theorem d_Line_insert_76 : decode b_Line_insert 76 = .ok (.getfield 25, 3) := by decide +kernel
theorem d_Line_insert_79 : decode b_Line_insert 79 = .ok (.aload_n 1, 1) := by decide +kernel
theorem d_Line_insert_80 : decode b_Line_insert 80 = .ok (.putfield 35, 3) := by decide +kernel
theorem d_Line_insert_83 : decode b_Line_insert 83 = .ok (.aload_n 1, 1) := by decide +kernel
theorem d_Line_insert_84 : decode b_Line_insert 84 = .ok (.getfield 35, 3) := by decide +kernel
theorem d_Line_insert_87 : decode b_Line_insert 87 = .ok (.ifnonnull 11, 3) := by decide +kernel
theorem d_Line_insert_90 : decode b_Line_insert 90 = .ok (.aload_n 0, 1) := by decide +kernel
theorem d_Line_insert_91 : decode b_Line_insert 91 = .ok (.aload_n 1, 1) := by decide +kernel
theorem d_Line_insert_92 : decode b_Line_insert 92 = .ok (.putfield 7, 3) := by decide +kernel
theorem d_Line_insert_95 : decode b_Line_insert 95 = .ok (.goto 11, 3) := by decide +kernel
theorem d_Line_insert_98 : decode b_Line_insert 98 = .ok (.aload_n 1, 1) := by decide +kernel
theorem d_Line_insert_99 : decode b_Line_insert 99 = .ok (.getfield 35, 3) := by decide +kernel
theorem d_Line_insert_102 : decode b_Line_insert 102 = .ok (.aload_n 1, 1) := by decide +kernel
theorem d_Line_insert_103 : decode b_Line_insert 103 = .ok (.putfield 25, 3) := by decide +kernel
theorem d_Line_insert_106 : decode b_Line_insert 106 = .ok (.aload_n 0, 1) := by decide +kernel
theorem d_Line_insert_107 : decode b_Line_insert 107 = .ok (.dup, 1) := by decide +kernel
theorem d_Line_insert_108 : decode b_Line_insert 108 = .ok (.getfield 38, 3) := by decide +kernel
theorem d_Line_insert_111 : decode b_Line_insert 111 = .ok (.iconst 1, 1) := by decide +kernel
theorem d_Line_insert_112 : decode b_Line_insert 112 = .ok (.iadd, 1) := by decide +kernel
theorem d_Line_insert_113 : decode b_Line_insert 113 = .ok (.putfield 38, 3) := by decide +kernel
theorem d_Line_insert_116 : decode b_Line_insert 116 = .ok (.return_, 1) := by decide +kernel
theorem d_Line_remove_0 : decode b_Line_remove 0 = .ok (.aload_n 1, 1) := by decide +kernel
theorem d_Line_remove_1 : decode b_Line_remove 1 = .ok (.getfield 25, 3) := by decide +kernel
theorem d_Line_remove_4 : decode b_Line_remove 4 = .ok (.ifnonnull 14, 3) := by decide +kernel
theorem d_Line_remove_7 : decode b_Line_remove 7 = .ok (.aload_n 0, 1) := by decide +kernel
theorem d_Line_remove_8 : decode b_Line_remove 8 = .ok (.aload_n 1, 1) := by decide +kernel
theorem d_Line_remove_9 : decode b_Line_remove 9 = .ok (.getfield 35, 3) := by decide +kernel
theorem d_Line_remove_12 : decode b_Line_remove 12 = .ok (.putfield 32, 3) := by decide +kernel
theorem d_Line_remove_15 : decode b_Line_remove 15 = .ok (.goto 14, 3) := by decide +kernel
theorem d_Line_remove_18 : decode b_Line_remove 18 = .ok (.aload_n 1, 1) := by decide +kernel
theorem d_Line_remove_19 : decode b_Line_remove 19 = .ok (.getfield 25, 3) := by decide +kernel
theorem d_Line_remove_22 : decode b_Line_remove 22 = .ok (.aload_n 1, 1) := by decide +kernel
theorem d_Line_remove_23 : decode b_Line_remove 23 = .ok (.getfield 35, 3) := by decide +kernel
theorem d_Line_remove_26 : decode b_Line_remove 26 = .ok (.putfield 35, 3) := by decide +kernel
theorem d_Line_remove_29 : decode b_Line_remove 29 = .ok (.aload_n 1, 1) := by decide +kernel
theorem d_Line_remove_30 : decode b_Line_remove 30 = .ok (.getfield 35, 3) := by decide +kernel
theorem d_Line_remove_33 : decode b_Line_remove 33 = .ok (.ifnonnull 14, 3) := by decide +kernel
theorem d_Line_remove_36 : decode b_Line_remove 36 = .ok (.aload_n 0, 1) := by decide +kernel
theorem d_Line_remove_37 : decode b_Line_remove 37 = .ok (.aload_n 1, 1) := by decide +kernel
theorem d_Line_remove_38 : decode b_Line_remove 38 = .ok (.getfield 25, 3) := by decide +kernel
theorem d_Line_remove_41 : decode b_Line_remove 41 = .ok (.putfield 7, 3) := by decide +kernel
theorem d_Line_remove_44 : decode b_Line_remove 44 = .ok (.goto 14, 3) := by decide +kernel
theorem d_Line_remove_47 : decode b_Line_remove 47 = .ok (.aload_n 1, 1) := by decide +kernel
theorem d_Line_remove_48 : decode b_Line_remove 48 = .ok (.getfield 35, 3) := by decide +kernel
theorem d_Line_remove_51 : decode b_Line_remove 51 = .ok (.aload_n 1, 1) := by decide +kernel
theorem d_Line_remove_52 : decode b_Line_remove 52 = .ok (.getfield 25, 3) := by decide +kernel
theorem d_Line_remove_55 : decode b_Line_remove 55 = .ok (.putfield 25, 3) := by decide +kernel
theorem d_Line_remove_58 : decode b_Line_remove 58 = .ok (.aload_n 1, 1) := by decide +kernel
theorem d_Line_remove_59 : decode b_Line_remove 59 = .ok (.aconst_null, 1) := by decide +kernel
theorem d_Line_remove_60 : decode b_Line_remove 60 = .ok (.putfield 28, 3) := by decide +kernel
theorem d_Line_remove_63 : decode b_Line_remove 63 = .ok (.aload_n 0, 1) := by decide +kernel
theorem d_Line_remove_64 : decode b_Line_remove 64 = .ok (.dup, 1) := by decide +kernel
theorem d_Line_remove_65 : decode b_Line_remove 65 = .ok (.getfield 38, 3) := by decide +kernel
theorem d_Line_remove_68 : decode b_Line_remove 68 = .ok (.iconst 1, 1) := by decide +kernel
theorem d_Line_remove_69 : decode b_Line_remove 69 = .ok (.isub, 1) := by decide +kernel
theorem d_Line_remove_70 : decode b_Line_remove 70 = .ok (.putfield 38, 3) := by decide +kernel
theorem d_Line_remove_73 : decode b_Line_remove 73 = .ok (.return_, 1) := by decide +kernel
theorem d_Lines_init_0 : decode b_Lines_init 0 = .ok (.aload_n 0, 1) := by decide +kernel
theorem d_Lines_init_1 : decode b_Lines_init 1 = .ok (.invokespecial 1, 3) := by decide +kernel
theorem d_Lines_init_4 : decode b_Lines_init 4 = .ok (.aload_n 0, 1) := by decide +kernel
theorem d_Lines_init_5 : decode b_Lines_init 5 = .ok (.sipush 256, 3) := by decide +kernel
theorem d_Lines_init_8 : decode b_Lines_init 8 = .ok (.anewarray 9, 3) := by decide +kernel
theorem d_Lines_init_11 : decode b_Lines_init 11 = .ok (.putfield 11, 3) := by decide +kernel
theorem d_Lines_init_14 : decode b_Lines_init 14 = .ok (.iconst 0, 1) := by decide +kernel
theorem d_Lines_init_15 : decode b_Lines_init 15 = .ok (.istore_n 2, 1) := by decide +kernel
theorem d_Lines_init_16 : decode b_Lines_init 16 = .ok (.iload_n 2, 1) := by decide +kernel
theorem d_Lines_init_17 : decode b_Lines_init 17 = .ok (.iload_n 1, 1) := by decide +kernel
theorem d_Lines_init_18 : decode b_Lines_init 18 = .ok (.if_icmp .ge 20, 3) := by decide +kernel
theorem d_Lines_init_21 : decode b_Lines_init 21 = .ok (.aload_n 0, 1) := by decide +kernel
theorem d_Lines_init_22 : decode b_Lines_init 22 = .ok (.new 9, 3) := by decide +kernel
theorem d_Lines_init_25 : decode b_Lines_init 25 = .ok (.dup, 1) := by decide +kernel
theorem d_Lines_init_26 : decode b_Lines_init 26 = .ok (.invokespecial 15, 3) := by decide +kernel
theorem d_Lines_init_29 : decode b_Lines_init 29 = .ok (.invokevirtual 16, 3) := by decide +kernel
theorem d_Lines_init_32 : decode b_Lines_init 32 = .ok (.iinc 2 1, 3) := by decide +kernel
theorem d_Lines_init_35 : decode b_Lines_init 35 = .ok (.goto (-19), 3) := by decide +kernel
theorem d_Lines_init_38 : decode b_Lines_init 38 = .ok (.return_, 1) := by decide +kernel
theorem d_Lines_give_0 : decode b_Lines_give 0 = .ok (.aload_n 1, 1) := by decide +kernel
theorem d_Lines_give_1 : decode b_Lines_give 1 = .ok (.aload_n 0, 1) := by decide +kernel
theorem d_Lines_give_2 : decode b_Lines_give 2 = .ok (.getfield 20, 3) := by decide +kernel
theorem d_Lines_give_5 : decode b_Lines_give 5 = .ok (.putfield 24, 3) := by decide +kernel
theorem d_Lines_give_8 : decode b_Lines_give 8 = .ok (.aload_n 0, 1) := by decide +kernel
theorem d_Lines_give_9 : decode b_Lines_give 9 = .ok (.aload_n 1, 1) := by decide +kernel
theorem d_Lines_give_10 : decode b_Lines_give 10 = .ok (.putfield 20, 3) := by decide +kernel
theorem d_Lines_give_13 : decode b_Lines_give 13 = .ok (.return_, 1) := by decide +kernel
theorem d_Lines_chain_0 : decode b_Lines_chain 0 = .ok (.iload_n 0, 1) := by decide +kernel
theorem d_Lines_chain_1 : decode b_Lines_chain 1 = .ok (.iload_n 0, 1) := by decide +kernel
theorem d_Lines_chain_2 : decode b_Lines_chain 2 = .ok (.bipush 8, 2) := by decide +kernel
theorem d_Lines_chain_4 : decode b_Lines_chain 4 = .ok (.ishr, 1) := by decide +kernel
theorem d_Lines_chain_5 : decode b_Lines_chain 5 = .ok (.ixor, 1) := by decide +kernel
theorem d_Lines_chain_6 : decode b_Lines_chain 6 = .ok (.sipush 255, 3) := by decide +kernel
theorem d_Lines_chain_9 : decode b_Lines_chain 9 = .ok (.iand, 1) := by decide +kernel
theorem d_Lines_chain_10 : decode b_Lines_chain 10 = .ok (.ireturn, 1) := by decide +kernel
theorem d_Lines_find_0 : decode b_Lines_find 0 = .ok (.aload_n 0, 1) := by decide +kernel
theorem d_Lines_find_1 : decode b_Lines_find 1 = .ok (.getfield 11, 3) := by decide +kernel
theorem d_Lines_find_4 : decode b_Lines_find 4 = .ok (.iload_n 1, 1) := by decide +kernel
theorem d_Lines_find_5 : decode b_Lines_find 5 = .ok (.invokestatic 27, 3) := by decide +kernel
theorem d_Lines_find_8 : decode b_Lines_find 8 = .ok (.aaload, 1) := by decide +kernel
theorem d_Lines_find_9 : decode b_Lines_find 9 = .ok (.astore_n 2, 1) := by decide +kernel
theorem d_Lines_find_10 : decode b_Lines_find 10 = .ok (.aload_n 2, 1) := by decide +kernel
theorem d_Lines_find_11 : decode b_Lines_find 11 = .ok (.ifnull 19, 3) := by decide +kernel
theorem d_Lines_find_14 : decode b_Lines_find 14 = .ok (.aload_n 2, 1) := by decide +kernel
theorem d_Lines_find_15 : decode b_Lines_find 15 = .ok (.getfield 31, 3) := by decide +kernel
theorem d_Lines_find_18 : decode b_Lines_find 18 = .ok (.iload_n 1, 1) := by decide +kernel
theorem d_Lines_find_19 : decode b_Lines_find 19 = .ok (.if_icmp .eq 11, 3) := by decide +kernel
theorem d_Lines_find_22 : decode b_Lines_find 22 = .ok (.aload_n 2, 1) := by decide +kernel
theorem d_Lines_find_23 : decode b_Lines_find 23 = .ok (.getfield 24, 3) := by decide +kernel
theorem d_Lines_find_26 : decode b_Lines_find 26 = .ok (.astore_n 2, 1) := by decide +kernel
theorem d_Lines_find_27 : decode b_Lines_find 27 = .ok (.goto (-17), 3) := by decide +kernel
theorem d_Lines_find_30 : decode b_Lines_find 30 = .ok (.aload_n 2, 1) := by decide +kernel
theorem d_Lines_find_31 : decode b_Lines_find 31 = .ok (.areturn, 1) := by decide +kernel
theorem d_Lines_need_0 : decode b_Lines_need 0 = .ok (.aload_n 0, 1) := by decide +kernel
theorem d_Lines_need_1 : decode b_Lines_need 1 = .ok (.iload_n 1, 1) := by decide +kernel
theorem d_Lines_need_2 : decode b_Lines_need 2 = .ok (.invokevirtual 35, 3) := by decide +kernel
theorem d_Lines_need_5 : decode b_Lines_need 5 = .ok (.astore_n 2, 1) := by decide +kernel
theorem d_Lines_need_6 : decode b_Lines_need 6 = .ok (.aload_n 2, 1) := by decide +kernel
theorem d_Lines_need_7 : decode b_Lines_need 7 = .ok (.ifnull 5, 3) := by decide +kernel
theorem d_Lines_need_10 : decode b_Lines_need 10 = .ok (.aload_n 2, 1) := by decide +kernel
theorem d_Lines_need_11 : decode b_Lines_need 11 = .ok (.areturn, 1) := by decide +kernel
theorem d_Lines_need_12 : decode b_Lines_need 12 = .ok (.aload_n 0, 1) := by decide +kernel
theorem d_Lines_need_13 : decode b_Lines_need 13 = .ok (.getfield 20, 3) := by decide +kernel
theorem d_Lines_need_16 : decode b_Lines_need 16 = .ok (.astore_n 2, 1) := by decide +kernel
theorem d_Lines_need_17 : decode b_Lines_need 17 = .ok (.aload_n 0, 1) := by decide +kernel
theorem d_Lines_need_18 : decode b_Lines_need 18 = .ok (.aload_n 2, 1) := by decide +kernel
theorem d_Lines_need_19 : decode b_Lines_need 19 = .ok (.getfield 24, 3) := by decide +kernel
theorem d_Lines_need_22 : decode b_Lines_need 22 = .ok (.putfield 20, 3) := by decide +kernel
theorem d_Lines_need_25 : decode b_Lines_need 25 = .ok (.aload_n 2, 1) := by decide +kernel
theorem d_Lines_need_26 : decode b_Lines_need 26 = .ok (.iload_n 1, 1) := by decide +kernel
theorem d_Lines_need_27 : decode b_Lines_need 27 = .ok (.putfield 31, 3) := by decide +kernel
theorem d_Lines_need_30 : decode b_Lines_need 30 = .ok (.aload_n 2, 1) := by decide +kernel
theorem d_Lines_need_31 : decode b_Lines_need 31 = .ok (.aload_n 0, 1) := by decide +kernel
theorem d_Lines_need_32 : decode b_Lines_need 32 = .ok (.getfield 11, 3) := by decide +kernel
theorem d_Lines_need_35 : decode b_Lines_need 35 = .ok (.iload_n 1, 1) := by decide +kernel
theorem d_Lines_need_36 : decode b_Lines_need 36 = .ok (.invokestatic 27, 3) := by decide +kernel
theorem d_Lines_need_39 : decode b_Lines_need 39 = .ok (.aaload, 1) := by decide +kernel
theorem d_Lines_need_40 : decode b_Lines_need 40 = .ok (.putfield 24, 3) := by decide +kernel
theorem d_Lines_need_43 : decode b_Lines_need 43 = .ok (.aload_n 0, 1) := by decide +kernel
theorem d_Lines_need_44 : decode b_Lines_need 44 = .ok (.getfield 11, 3) := by decide +kernel
theorem d_Lines_need_47 : decode b_Lines_need 47 = .ok (.iload_n 1, 1) := by decide +kernel
theorem d_Lines_need_48 : decode b_Lines_need 48 = .ok (.invokestatic 27, 3) := by decide +kernel
theorem d_Lines_need_51 : decode b_Lines_need 51 = .ok (.aload_n 2, 1) := by decide +kernel
theorem d_Lines_need_52 : decode b_Lines_need 52 = .ok (.aastore, 1) := by decide +kernel
theorem d_Lines_need_53 : decode b_Lines_need 53 = .ok (.aload_n 0, 1) := by decide +kernel
theorem d_Lines_need_54 : decode b_Lines_need 54 = .ok (.dup, 1) := by decide +kernel
theorem d_Lines_need_55 : decode b_Lines_need 55 = .ok (.getfield 39, 3) := by decide +kernel
theorem d_Lines_need_58 : decode b_Lines_need 58 = .ok (.iconst 1, 1) := by decide +kernel
theorem d_Lines_need_59 : decode b_Lines_need 59 = .ok (.iadd, 1) := by decide +kernel
theorem d_Lines_need_60 : decode b_Lines_need 60 = .ok (.putfield 39, 3) := by decide +kernel
theorem d_Lines_need_63 : decode b_Lines_need 63 = .ok (.aload_n 2, 1) := by decide +kernel
theorem d_Lines_need_64 : decode b_Lines_need 64 = .ok (.areturn, 1) := by decide +kernel
theorem d_Lines_drop_0 : decode b_Lines_drop 0 = .ok (.aload_n 1, 1) := by decide +kernel
theorem d_Lines_drop_1 : decode b_Lines_drop 1 = .ok (.getfield 31, 3) := by decide +kernel
theorem d_Lines_drop_4 : decode b_Lines_drop 4 = .ok (.invokestatic 27, 3) := by decide +kernel
theorem d_Lines_drop_7 : decode b_Lines_drop 7 = .ok (.istore_n 2, 1) := by decide +kernel
theorem d_Lines_drop_8 : decode b_Lines_drop 8 = .ok (.aload_n 0, 1) := by decide +kernel
theorem d_Lines_drop_9 : decode b_Lines_drop 9 = .ok (.getfield 11, 3) := by decide +kernel
theorem d_Lines_drop_12 : decode b_Lines_drop 12 = .ok (.iload_n 2, 1) := by decide +kernel
theorem d_Lines_drop_13 : decode b_Lines_drop 13 = .ok (.aaload, 1) := by decide +kernel
theorem d_Lines_drop_14 : decode b_Lines_drop 14 = .ok (.aload_n 1, 1) := by decide +kernel
theorem d_Lines_drop_15 : decode b_Lines_drop 15 = .ok (.if_acmp .ne 16, 3) := by decide +kernel
theorem d_Lines_drop_18 : decode b_Lines_drop 18 = .ok (.aload_n 0, 1) := by decide +kernel
theorem d_Lines_drop_19 : decode b_Lines_drop 19 = .ok (.getfield 11, 3) := by decide +kernel
theorem d_Lines_drop_22 : decode b_Lines_drop 22 = .ok (.iload_n 2, 1) := by decide +kernel
theorem d_Lines_drop_23 : decode b_Lines_drop 23 = .ok (.aload_n 1, 1) := by decide +kernel
theorem d_Lines_drop_24 : decode b_Lines_drop 24 = .ok (.getfield 24, 3) := by decide +kernel
theorem d_Lines_drop_27 : decode b_Lines_drop 27 = .ok (.aastore, 1) := by decide +kernel
theorem d_Lines_drop_28 : decode b_Lines_drop 28 = .ok (.goto 34, 3) := by decide +kernel
theorem d_Lines_drop_31 : decode b_Lines_drop 31 = .ok (.aload_n 0, 1) := by decide +kernel
theorem d_Lines_drop_32 : decode b_Lines_drop 32 = .ok (.getfield 11, 3) := by decide +kernel
theorem d_Lines_drop_35 : decode b_Lines_drop 35 = .ok (.iload_n 2, 1) := by decide +kernel
theorem d_Lines_drop_36 : decode b_Lines_drop 36 = .ok (.aaload, 1) := by decide +kernel
theorem d_Lines_drop_37 : decode b_Lines_drop 37 = .ok (.astore_n 3, 1) := by decide +kernel
theorem d_Lines_drop_38 : decode b_Lines_drop 38 = .ok (.aload_n 3, 1) := by decide +kernel
theorem d_Lines_drop_39 : decode b_Lines_drop 39 = .ok (.getfield 24, 3) := by decide +kernel
theorem d_Lines_drop_42 : decode b_Lines_drop 42 = .ok (.aload_n 1, 1) := by decide +kernel
theorem d_Lines_drop_43 : decode b_Lines_drop 43 = .ok (.if_acmp .eq 11, 3) := by decide +kernel
theorem d_Lines_drop_46 : decode b_Lines_drop 46 = .ok (.aload_n 3, 1) := by decide +kernel
theorem d_Lines_drop_47 : decode b_Lines_drop 47 = .ok (.getfield 24, 3) := by decide +kernel
theorem d_Lines_drop_50 : decode b_Lines_drop 50 = .ok (.astore_n 3, 1) := by decide +kernel
theorem d_Lines_drop_51 : decode b_Lines_drop 51 = .ok (.goto (-13), 3) := by decide +kernel
theorem d_Lines_drop_54 : decode b_Lines_drop 54 = .ok (.aload_n 3, 1) := by decide +kernel
theorem d_Lines_drop_55 : decode b_Lines_drop 55 = .ok (.aload_n 1, 1) := by decide +kernel
theorem d_Lines_drop_56 : decode b_Lines_drop 56 = .ok (.getfield 24, 3) := by decide +kernel
theorem d_Lines_drop_59 : decode b_Lines_drop 59 = .ok (.putfield 24, 3) := by decide +kernel
theorem d_Lines_drop_62 : decode b_Lines_drop 62 = .ok (.aload_n 0, 1) := by decide +kernel
theorem d_Lines_drop_63 : decode b_Lines_drop 63 = .ok (.aload_n 1, 1) := by decide +kernel
theorem d_Lines_drop_64 : decode b_Lines_drop 64 = .ok (.invokevirtual 16, 3) := by decide +kernel
theorem d_Lines_drop_67 : decode b_Lines_drop 67 = .ok (.aload_n 0, 1) := by decide +kernel
theorem d_Lines_drop_68 : decode b_Lines_drop 68 = .ok (.dup, 1) := by decide +kernel
theorem d_Lines_drop_69 : decode b_Lines_drop 69 = .ok (.getfield 39, 3) := by decide +kernel
theorem d_Lines_drop_72 : decode b_Lines_drop 72 = .ok (.iconst 1, 1) := by decide +kernel
theorem d_Lines_drop_73 : decode b_Lines_drop 73 = .ok (.isub, 1) := by decide +kernel
theorem d_Lines_drop_74 : decode b_Lines_drop 74 = .ok (.putfield 39, 3) := by decide +kernel
theorem d_Lines_drop_77 : decode b_Lines_drop 77 = .ok (.return_, 1) := by decide +kernel
theorem d_Member_init_0 : decode b_Member_init 0 = .ok (.aload_n 0, 1) := by decide +kernel
theorem d_Member_init_1 : decode b_Member_init 1 = .ok (.invokespecial 1, 3) := by decide +kernel
theorem d_Member_init_4 : decode b_Member_init 4 = .ok (.return_, 1) := by decide +kernel
theorem d_Orders_init_0 : decode b_Orders_init 0 = .ok (.aload_n 0, 1) := by decide +kernel
theorem d_Orders_init_1 : decode b_Orders_init 1 = .ok (.invokespecial 1, 3) := by decide +kernel
theorem d_Orders_init_4 : decode b_Orders_init 4 = .ok (.aload_n 0, 1) := by decide +kernel
theorem d_Orders_init_5 : decode b_Orders_init 5 = .ok (.iload_n 1, 1) := by decide +kernel
theorem d_Orders_init_6 : decode b_Orders_init 6 = .ok (.anewarray 7, 3) := by decide +kernel
theorem d_Orders_init_9 : decode b_Orders_init 9 = .ok (.putfield 9, 3) := by decide +kernel
theorem d_Orders_init_12 : decode b_Orders_init 12 = .ok (.iconst 0, 1) := by decide +kernel
theorem d_Orders_init_13 : decode b_Orders_init 13 = .ok (.istore_n 2, 1) := by decide +kernel
theorem d_Orders_init_14 : decode b_Orders_init 14 = .ok (.iload_n 2, 1) := by decide +kernel
theorem d_Orders_init_15 : decode b_Orders_init 15 = .ok (.iload_n 1, 1) := by decide +kernel
theorem d_Orders_init_16 : decode b_Orders_init 16 = .ok (.if_icmp .ge 32, 3) := by decide +kernel
theorem d_Orders_init_19 : decode b_Orders_init 19 = .ok (.aload_n 0, 1) := by decide +kernel
theorem d_Orders_init_20 : decode b_Orders_init 20 = .ok (.getfield 9, 3) := by decide +kernel
theorem d_Orders_init_23 : decode b_Orders_init 23 = .ok (.iload_n 2, 1) := by decide +kernel
theorem d_Orders_init_24 : decode b_Orders_init 24 = .ok (.new 7, 3) := by decide +kernel
theorem d_Orders_init_27 : decode b_Orders_init 27 = .ok (.dup, 1) := by decide +kernel
theorem d_Orders_init_28 : decode b_Orders_init 28 = .ok (.iload_n 2, 1) := by decide +kernel
theorem d_Orders_init_29 : decode b_Orders_init 29 = .ok (.invokespecial 15, 3) := by decide +kernel
theorem d_Orders_init_32 : decode b_Orders_init 32 = .ok (.aastore, 1) := by decide +kernel
theorem d_Orders_init_33 : decode b_Orders_init 33 = .ok (.aload_n 0, 1) := by decide +kernel
theorem d_Orders_init_34 : decode b_Orders_init 34 = .ok (.getfield 9, 3) := by decide +kernel
theorem d_Orders_init_37 : decode b_Orders_init 37 = .ok (.iload_n 2, 1) := by decide +kernel
theorem d_Orders_init_38 : decode b_Orders_init 38 = .ok (.aaload, 1) := by decide +kernel
theorem d_Orders_init_39 : decode b_Orders_init 39 = .ok (.invokevirtual 18, 3) := by decide +kernel
theorem d_Orders_init_42 : decode b_Orders_init 42 = .ok (.iinc 2 1, 3) := by decide +kernel
theorem d_Orders_init_45 : decode b_Orders_init 45 = .ok (.goto (-31), 3) := by decide +kernel
theorem d_Orders_init_48 : decode b_Orders_init 48 = .ok (.aload_n 0, 1) := by decide +kernel
theorem d_Orders_init_49 : decode b_Orders_init 49 = .ok (.new 21, 3) := by decide +kernel
theorem d_Orders_init_52 : decode b_Orders_init 52 = .ok (.dup, 1) := by decide +kernel
theorem d_Orders_init_53 : decode b_Orders_init 53 = .ok (.iload_n 1, 1) := by decide +kernel
theorem d_Orders_init_54 : decode b_Orders_init 54 = .ok (.bipush 8, 2) := by decide +kernel
theorem d_Orders_init_56 : decode b_Orders_init 56 = .ok (.imul, 1) := by decide +kernel
theorem d_Orders_init_57 : decode b_Orders_init 57 = .ok (.invokespecial 23, 3) := by decide +kernel
theorem d_Orders_init_60 : decode b_Orders_init 60 = .ok (.putfield 24, 3) := by decide +kernel
theorem d_Orders_init_63 : decode b_Orders_init 63 = .ok (.return_, 1) := by decide +kernel
theorem d_Orders_isItem_0 : decode b_Orders_isItem 0 = .ok (.iload_n 1, 1) := by decide +kernel
theorem d_Orders_isItem_1 : decode b_Orders_isItem 1 = .ok (.ifCond .lt 16, 3) := by decide +kernel
theorem d_Orders_isItem_4 : decode b_Orders_isItem 4 = .ok (.iload_n 1, 1) := by decide +kernel
theorem d_Orders_isItem_5 : decode b_Orders_isItem 5 = .ok (.aload_n 0, 1) := by decide +kernel
theorem d_Orders_isItem_6 : decode b_Orders_isItem 6 = .ok (.getfield 9, 3) := by decide +kernel
theorem d_Orders_isItem_9 : decode b_Orders_isItem 9 = .ok (.arraylength, 1) := by decide +kernel
theorem d_Orders_isItem_10 : decode b_Orders_isItem 10 = .ok (.if_icmp .ge 7, 3) := by decide +kernel
theorem d_Orders_isItem_13 : decode b_Orders_isItem 13 = .ok (.iconst 1, 1) := by decide +kernel
theorem d_Orders_isItem_14 : decode b_Orders_isItem 14 = .ok (.goto 4, 3) := by decide +kernel
theorem d_Orders_isItem_17 : decode b_Orders_isItem 17 = .ok (.iconst 0, 1) := by decide +kernel
theorem d_Orders_isItem_18 : decode b_Orders_isItem 18 = .ok (.ireturn, 1) := by decide +kernel
theorem d_Orders_queued_0 : decode b_Orders_queued 0 = .ok (.aload_n 0, 1) := by decide +kernel
theorem d_Orders_queued_1 : decode b_Orders_queued 1 = .ok (.iload_n 1, 1) := by decide +kernel
theorem d_Orders_queued_2 : decode b_Orders_queued 2 = .ok (.invokevirtual 28, 3) := by decide +kernel
theorem d_Orders_queued_5 : decode b_Orders_queued 5 = .ok (.ifCond .eq 24, 3) := by decide +kernel
theorem d_Orders_queued_8 : decode b_Orders_queued 8 = .ok (.aload_n 0, 1) := by decide +kernel
theorem d_Orders_queued_9 : decode b_Orders_queued 9 = .ok (.getfield 9, 3) := by decide +kernel
theorem d_Orders_queued_12 : decode b_Orders_queued 12 = .ok (.iload_n 1, 1) := by decide +kernel
theorem d_Orders_queued_13 : decode b_Orders_queued 13 = .ok (.aaload, 1) := by decide +kernel
theorem d_Orders_queued_14 : decode b_Orders_queued 14 = .ok (.getfield 32, 3) := by decide +kernel
theorem d_Orders_queued_17 : decode b_Orders_queued 17 = .ok (.ifCond .eq 12, 3) := by decide +kernel
theorem d_Orders_queued_20 : decode b_Orders_queued 20 = .ok (.aload_n 0, 1) := by decide +kernel
theorem d_Orders_queued_21 : decode b_Orders_queued 21 = .ok (.getfield 9, 3) := by decide +kernel
theorem d_Orders_queued_24 : decode b_Orders_queued 24 = .ok (.iload_n 1, 1) := by decide +kernel
theorem d_Orders_queued_25 : decode b_Orders_queued 25 = .ok (.aaload, 1) := by decide +kernel
theorem d_Orders_queued_26 : decode b_Orders_queued 26 = .ok (.goto 4, 3) := by decide +kernel
theorem d_Orders_queued_29 : decode b_Orders_queued 29 = .ok (.aconst_null, 1) := by decide +kernel
theorem d_Orders_queued_30 : decode b_Orders_queued 30 = .ok (.areturn, 1) := by decide +kernel
theorem d_Orders_enter_0 : decode b_Orders_enter 0 = .ok (.aload_n 0, 1) := by decide +kernel
theorem d_Orders_enter_1 : decode b_Orders_enter 1 = .ok (.dup, 1) := by decide +kernel
theorem d_Orders_enter_2 : decode b_Orders_enter 2 = .ok (.getfield 36, 3) := by decide +kernel
theorem d_Orders_enter_5 : decode b_Orders_enter 5 = .ok (.iconst 1, 1) := by decide +kernel
theorem d_Orders_enter_6 : decode b_Orders_enter 6 = .ok (.iadd, 1) := by decide +kernel
theorem d_Orders_enter_7 : decode b_Orders_enter 7 = .ok (.putfield 36, 3) := by decide +kernel
theorem d_Orders_enter_10 : decode b_Orders_enter 10 = .ok (.aload_n 1, 1) := by decide +kernel
theorem d_Orders_enter_11 : decode b_Orders_enter 11 = .ok (.iload_n 2, 1) := by decide +kernel
theorem d_Orders_enter_12 : decode b_Orders_enter 12 = .ok (.putfield 40, 3) := by decide +kernel
theorem d_Orders_enter_15 : decode b_Orders_enter 15 = .ok (.aload_n 1, 1) := by decide +kernel
theorem d_Orders_enter_16 : decode b_Orders_enter 16 = .ok (.aload_n 0, 1) := by decide +kernel
theorem d_Orders_enter_17 : decode b_Orders_enter 17 = .ok (.getfield 36, 3) := by decide +kernel
theorem d_Orders_enter_20 : decode b_Orders_enter 20 = .ok (.putfield 43, 3) := by decide +kernel
theorem d_Orders_enter_23 : decode b_Orders_enter 23 = .ok (.aload_n 1, 1) := by decide +kernel
theorem d_Orders_enter_24 : decode b_Orders_enter 24 = .ok (.iconst 1, 1) := by decide +kernel
theorem d_Orders_enter_25 : decode b_Orders_enter 25 = .ok (.putfield 32, 3) := by decide +kernel
theorem d_Orders_enter_28 : decode b_Orders_enter 28 = .ok (.aload_n 0, 1) := by decide +kernel
theorem d_Orders_enter_29 : decode b_Orders_enter 29 = .ok (.getfield 46, 3) := by decide +kernel
theorem d_Orders_enter_32 : decode b_Orders_enter 32 = .ok (.astore_n 3, 1) := by decide +kernel
theorem d_Orders_enter_33 : decode b_Orders_enter 33 = .ok (.aload_n 3, 1) := by decide +kernel
theorem d_Orders_enter_34 : decode b_Orders_enter 34 = .ok (.ifnull 19, 3) := by decide +kernel
theorem d_Orders_enter_37 : decode b_Orders_enter 37 = .ok (.aload_n 1, 1) := by decide +kernel
theorem d_Orders_enter_38 : decode b_Orders_enter 38 = .ok (.aload_n 3, 1) := by decide +kernel
theorem d_Orders_enter_39 : decode b_Orders_enter 39 = .ok (.invokevirtual 50, 3) := by decide +kernel
theorem d_Orders_enter_42 : decode b_Orders_enter 42 = .ok (.ifCond .eq 11, 3) := by decide +kernel
theorem d_Orders_enter_45 : decode b_Orders_enter 45 = .ok (.aload_n 3, 1) := by decide +kernel
theorem d_Orders_enter_46 : decode b_Orders_enter 46 = .ok (.getfield 54, 3) := by decide +kernel
theorem d_Orders_enter_49 : decode b_Orders_enter 49 = .ok (.astore_n 3, 1) := by decide +kernel
theorem d_Orders_enter_50 : decode b_Orders_enter 50 = .ok (.goto (-17), 3) := by decide +kernel
theorem d_Orders_enter_53 : decode b_Orders_enter 53 = .ok (.aload_n 1, 1) := by decide +kernel
theorem d_Orders_enter_54 : decode b_Orders_enter 54 = .ok (.aload_n 3, 1) := by decide +kernel
theorem d_Orders_enter_55 : decode b_Orders_enter 55 = .ok (.putfield 54, 3) := by decide +kernel
theorem d_Orders_enter_58 : decode b_Orders_enter 58 = .ok (.aload_n 1, 1) := by decide +kernel
theorem d_Orders_enter_59 : decode b_Orders_enter 59 = .ok (.aload_n 3, 1) := by decide +kernel
theorem d_Orders_enter_60 : decode b_Orders_enter 60 = .ok (.ifnonnull 10, 3) := by decide +kernel
theorem d_Orders_enter_63 : decode b_Orders_enter 63 = .ok (.aload_n 0, 1) := by decide +kernel
theorem d_Orders_enter_64 : decode b_Orders_enter 64 = .ok (.getfield 57, 3) := by decide +kernel
theorem d_Orders_enter_67 : decode b_Orders_enter 67 = .ok (.goto 7, 3) := by decide +kernel
theorem d_Orders_enter_70 : decode b_Orders_enter 70 = .ok (.aload_n 3, 1) := by decide +kernel
theorem d_Orders_enter_71 : decode b_Orders_enter 71 = .ok (.getfield 60, 3) := by decide +kernel
theorem d_Orders_enter_74 : decode b_Orders_enter 74 = .ok (.putfield 60, 3) := by decide +kernel
theorem d_Orders_enter_77 : decode b_Orders_enter 77 = .ok (.aload_n 1, 1) := by decide +kernel
theorem d_Orders_enter_78 : decode b_Orders_enter 78 = .ok (.getfield 54, 3) := by decide +kernel
theorem d_Orders_enter_81 : decode b_Orders_enter 81 = .ok (.ifnonnull 11, 3) := by decide +kernel
theorem d_Orders_enter_84 : decode b_Orders_enter 84 = .ok (.aload_n 0, 1) := by decide +kernel
theorem d_Orders_enter_85 : decode b_Orders_enter 85 = .ok (.aload_n 1, 1) := by decide +kernel
theorem d_Orders_enter_86 : decode b_Orders_enter 86 = .ok (.putfield 57, 3) := by decide +kernel
theorem d_Orders_enter_89 : decode b_Orders_enter 89 = .ok (.goto 11, 3) := by decide +kernel
theorem d_Orders_enter_92 : decode b_Orders_enter 92 = .ok (.aload_n 1, 1) := by decide +kernel
theorem d_Orders_enter_93 : decode b_Orders_enter 93 = .ok (.getfield 54, 3) := by decide +kernel
theorem d_Orders_enter_96 : decode b_Orders_enter 96 = .ok (.aload_n 1, 1) := by decide +kernel
theorem d_Orders_enter_97 : decode b_Orders_enter 97 = .ok (.putfield 60, 3) := by decide +kernel
theorem d_Orders_enter_100 : decode b_Orders_enter 100 = .ok (.aload_n 1, 1) := by decide +kernel
theorem d_Orders_enter_101 : decode b_Orders_enter 101 = .ok (.getfield 60, 3) := by decide +kernel
theorem d_Orders_enter_104 : decode b_Orders_enter 104 = .ok (.ifnonnull 11, 3) := by decide +kernel
theorem d_Orders_enter_107 : decode b_Orders_enter 107 = .ok (.aload_n 0, 1) := by decide +kernel
theorem d_Orders_enter_108 : decode b_Orders_enter 108 = .ok (.aload_n 1, 1) := by decide +kernel
theorem d_Orders_enter_109 : decode b_Orders_enter 109 = .ok (.putfield 46, 3) := by decide +kernel
theorem d_Orders_enter_112 : decode b_Orders_enter 112 = .ok (.goto 11, 3) := by decide +kernel
theorem d_Orders_enter_115 : decode b_Orders_enter 115 = .ok (.aload_n 1, 1) := by decide +kernel
theorem d_Orders_enter_116 : decode b_Orders_enter 116 = .ok (.getfield 60, 3) := by decide +kernel
theorem d_Orders_enter_119 : decode b_Orders_enter 119 = .ok (.aload_n 1, 1) := by decide +kernel
theorem d_Orders_enter_120 : decode b_Orders_enter 120 = .ok (.putfield 54, 3) := by decide +kernel
theorem d_Orders_enter_123 : decode b_Orders_enter 123 = .ok (.iconst 0, 1) := by decide +kernel
theorem d_Orders_enter_124 : decode b_Orders_enter 124 = .ok (.istore 4, 2) := by decide +kernel
theorem d_Orders_enter_126 : decode b_Orders_enter 126 = .ok (.iload 4, 2) := by decide +kernel
theorem d_Orders_enter_128 : decode b_Orders_enter 128 = .ok (.aload_n 1, 1) := by decide +kernel
theorem d_Orders_enter_129 : decode b_Orders_enter 129 = .ok (.getfield 63, 3) := by decide +kernel
theorem d_Orders_enter_132 : decode b_Orders_enter 132 = .ok (.if_icmp .ge 36, 3) := by decide +kernel
theorem d_Orders_enter_135 : decode b_Orders_enter 135 = .ok (.aload_n 0, 1) := by decide +kernel
theorem d_Orders_enter_136 : decode b_Orders_enter 136 = .ok (.getfield 24, 3) := by decide +kernel
theorem d_Orders_enter_139 : decode b_Orders_enter 139 = .ok (.aload_n 1, 1) := by decide +kernel
theorem d_Orders_enter_140 : decode b_Orders_enter 140 = .ok (.getfield 66, 3) := by decide +kernel
theorem d_Orders_enter_143 : decode b_Orders_enter 143 = .ok (.iload 4, 2) := by decide +kernel
theorem d_Orders_enter_145 : decode b_Orders_enter 145 = .ok (.aaload, 1) := by decide +kernel
theorem d_Orders_enter_146 : decode b_Orders_enter 146 = .ok (.getfield 70, 3) := by decide +kernel
theorem d_Orders_enter_149 : decode b_Orders_enter 149 = .ok (.invokevirtual 75, 3) := by decide +kernel
theorem d_Orders_enter_152 : decode b_Orders_enter 152 = .ok (.aload_n 1, 1) := by decide +kernel
theorem d_Orders_enter_153 : decode b_Orders_enter 153 = .ok (.getfield 66, 3) := by decide +kernel
theorem d_Orders_enter_156 : decode b_Orders_enter 156 = .ok (.iload 4, 2) := by decide +kernel
theorem d_Orders_enter_158 : decode b_Orders_enter 158 = .ok (.aaload, 1) := by decide +kernel
theorem d_Orders_enter_159 : decode b_Orders_enter 159 = .ok (.invokevirtual 79, 3) := by decide +kernel
theorem d_Orders_enter_162 : decode b_Orders_enter 162 = .ok (.iinc 4 1, 3) := by decide +kernel
theorem d_Orders_enter_165 : decode b_Orders_enter 165 = .ok (.goto (-39), 3) := by decide +kernel
theorem d_Orders_enter_168 : decode b_Orders_enter 168 = .ok (.aload_n 0, 1) := by decide +kernel
theorem d_Orders_enter_169 : decode b_Orders_enter 169 = .ok (.dup, 1) := by decide +kernel
theorem d_Orders_enter_170 : decode b_Orders_enter 170 = .ok (.getfield 85, 3) := by decide +kernel
theorem d_Orders_enter_173 : decode b_Orders_enter 173 = .ok (.iconst 1, 1) := by decide +kernel
theorem d_Orders_enter_174 : decode b_Orders_enter 174 = .ok (.iadd, 1) := by decide +kernel
theorem d_Orders_enter_175 : decode b_Orders_enter 175 = .ok (.putfield 85, 3) := by decide +kernel
theorem d_Orders_enter_178 : decode b_Orders_enter 178 = .ok (.aload_n 0, 1) := by decide +kernel
theorem d_Orders_enter_179 : decode b_Orders_enter 179 = .ok (.getfield 36, 3) := by decide +kernel
theorem d_Orders_enter_182 : decode b_Orders_enter 182 = .ok (.ireturn, 1) := by decide +kernel
theorem d_Orders_exit_0 : decode b_Orders_exit 0 = .ok (.aload_n 1, 1) := by decide +kernel
theorem d_Orders_exit_1 : decode b_Orders_exit 1 = .ok (.getfield 54, 3) := by decide +kernel
theorem d_Orders_exit_4 : decode b_Orders_exit 4 = .ok (.ifnonnull 14, 3) := by decide +kernel
theorem d_Orders_exit_7 : decode b_Orders_exit 7 = .ok (.aload_n 0, 1) := by decide +kernel
theorem d_Orders_exit_8 : decode b_Orders_exit 8 = .ok (.aload_n 1, 1) := by decide +kernel
theorem d_Orders_exit_9 : decode b_Orders_exit 9 = .ok (.getfield 60, 3) := by decide +kernel
theorem d_Orders_exit_12 : decode b_Orders_exit 12 = .ok (.putfield 57, 3) := by decide +kernel
theorem d_Orders_exit_15 : decode b_Orders_exit 15 = .ok (.goto 14, 3) := by decide +kernel
theorem d_Orders_exit_18 : decode b_Orders_exit 18 = .ok (.aload_n 1, 1) := by decide +kernel
theorem d_Orders_exit_19 : decode b_Orders_exit 19 = .ok (.getfield 54, 3) := by decide +kernel
theorem d_Orders_exit_22 : decode b_Orders_exit 22 = .ok (.aload_n 1, 1) := by decide +kernel
theorem d_Orders_exit_23 : decode b_Orders_exit 23 = .ok (.getfield 60, 3) := by decide +kernel
theorem d_Orders_exit_26 : decode b_Orders_exit 26 = .ok (.putfield 60, 3) := by decide +kernel
theorem d_Orders_exit_29 : decode b_Orders_exit 29 = .ok (.aload_n 1, 1) := by decide +kernel
theorem d_Orders_exit_30 : decode b_Orders_exit 30 = .ok (.getfield 60, 3) := by decide +kernel
theorem d_Orders_exit_33 : decode b_Orders_exit 33 = .ok (.ifnonnull 14, 3) := by decide +kernel
theorem d_Orders_exit_36 : decode b_Orders_exit 36 = .ok (.aload_n 0, 1) := by decide +kernel
theorem d_Orders_exit_37 : decode b_Orders_exit 37 = .ok (.aload_n 1, 1) := by decide +kernel
theorem d_Orders_exit_38 : decode b_Orders_exit 38 = .ok (.getfield 54, 3) := by decide +kernel
theorem d_Orders_exit_41 : decode b_Orders_exit 41 = .ok (.putfield 46, 3) := by decide +kernel
theorem d_Orders_exit_44 : decode b_Orders_exit 44 = .ok (.goto 14, 3) := by decide +kernel
theorem d_Orders_exit_47 : decode b_Orders_exit 47 = .ok (.aload_n 1, 1) := by decide +kernel
theorem d_Orders_exit_48 : decode b_Orders_exit 48 = .ok (.getfield 60, 3) := by decide +kernel
theorem d_Orders_exit_51 : decode b_Orders_exit 51 = .ok (.aload_n 1, 1) := by decide +kernel
theorem d_Orders_exit_52 : decode b_Orders_exit 52 = .ok (.getfield 54, 3) := by decide +kernel
theorem d_Orders_exit_55 : decode b_Orders_exit 55 = .ok (.putfield 54, 3) := by decide +kernel
theorem d_Orders_exit_58 : decode b_Orders_exit 58 = .ok (.iconst 0, 1) := by decide +kernel
theorem d_Orders_exit_59 : decode b_Orders_exit 59 = .ok (.istore_n 2, 1) := by decide +kernel
theorem d_Orders_exit_60 : decode b_Orders_exit 60 = .ok (.iload_n 2, 1) := by decide +kernel
theorem d_Orders_exit_61 : decode b_Orders_exit 61 = .ok (.aload_n 1, 1) := by decide +kernel
theorem d_Orders_exit_62 : decode b_Orders_exit 62 = .ok (.getfield 63, 3) := by decide +kernel
theorem d_Orders_exit_65 : decode b_Orders_exit 65 = .ok (.if_icmp .ge 44, 3) := by decide +kernel
theorem d_Orders_exit_68 : decode b_Orders_exit 68 = .ok (.aload_n 1, 1) := by decide +kernel
theorem d_Orders_exit_69 : decode b_Orders_exit 69 = .ok (.getfield 66, 3) := by decide +kernel
theorem d_Orders_exit_72 : decode b_Orders_exit 72 = .ok (.iload_n 2, 1) := by decide +kernel
theorem d_Orders_exit_73 : decode b_Orders_exit 73 = .ok (.aaload, 1) := by decide +kernel
theorem d_Orders_exit_74 : decode b_Orders_exit 74 = .ok (.getfield 86, 3) := by decide +kernel
theorem d_Orders_exit_77 : decode b_Orders_exit 77 = .ok (.astore_n 3, 1) := by decide +kernel
theorem d_Orders_exit_78 : decode b_Orders_exit 78 = .ok (.aload_n 3, 1) := by decide +kernel
theorem d_Orders_exit_79 : decode b_Orders_exit 79 = .ok (.aload_n 1, 1) := by decide +kernel
theorem d_Orders_exit_80 : decode b_Orders_exit 80 = .ok (.getfield 66, 3) := by decide +kernel
theorem d_Orders_exit_83 : decode b_Orders_exit 83 = .ok (.iload_n 2, 1) := by decide +kernel
theorem d_Orders_exit_84 : decode b_Orders_exit 84 = .ok (.aaload, 1) := by decide +kernel
theorem d_Orders_exit_85 : decode b_Orders_exit 85 = .ok (.invokevirtual 90, 3) := by decide +kernel
theorem d_Orders_exit_88 : decode b_Orders_exit 88 = .ok (.aload_n 3, 1) := by decide +kernel
theorem d_Orders_exit_89 : decode b_Orders_exit 89 = .ok (.getfield 93, 3) := by decide +kernel
theorem d_Orders_exit_92 : decode b_Orders_exit 92 = .ok (.ifCond .ne 11, 3) := by decide +kernel
theorem d_Orders_exit_95 : decode b_Orders_exit 95 = .ok (.aload_n 0, 1) := by decide +kernel
theorem d_Orders_exit_96 : decode b_Orders_exit 96 = .ok (.getfield 24, 3) := by decide +kernel
theorem d_Orders_exit_99 : decode b_Orders_exit 99 = .ok (.aload_n 3, 1) := by decide +kernel
theorem d_Orders_exit_100 : decode b_Orders_exit 100 = .ok (.invokevirtual 94, 3) := by decide +kernel
theorem d_Orders_exit_103 : decode b_Orders_exit 103 = .ok (.iinc 2 1, 3) := by decide +kernel
theorem d_Orders_exit_106 : decode b_Orders_exit 106 = .ok (.goto (-46), 3) := by decide +kernel
theorem d_Orders_exit_109 : decode b_Orders_exit 109 = .ok (.aload_n 1, 1) := by decide +kernel
theorem d_Orders_exit_110 : decode b_Orders_exit 110 = .ok (.iconst 0, 1) := by decide +kernel
theorem d_Orders_exit_111 : decode b_Orders_exit 111 = .ok (.putfield 32, 3) := by decide +kernel
theorem d_Orders_exit_114 : decode b_Orders_exit 114 = .ok (.aload_n 0, 1) := by decide +kernel
theorem d_Orders_exit_115 : decode b_Orders_exit 115 = .ok (.dup, 1) := by decide +kernel
theorem d_Orders_exit_116 : decode b_Orders_exit 116 = .ok (.getfield 85, 3) := by decide +kernel
theorem d_Orders_exit_119 : decode b_Orders_exit 119 = .ok (.iconst 1, 1) := by decide +kernel
theorem d_Orders_exit_120 : decode b_Orders_exit 120 = .ok (.isub, 1) := by decide +kernel
theorem d_Orders_exit_121 : decode b_Orders_exit 121 = .ok (.putfield 85, 3) := by decide +kernel
theorem d_Orders_exit_124 : decode b_Orders_exit 124 = .ok (.return_, 1) := by decide +kernel
theorem d_Orders_join_0 : decode b_Orders_join 0 = .ok (.aload_n 1, 1) := by decide +kernel
theorem d_Orders_join_1 : decode b_Orders_join 1 = .ok (.iload_n 2, 1) := by decide +kernel
theorem d_Orders_join_2 : decode b_Orders_join 2 = .ok (.invokevirtual 98, 3) := by decide +kernel
theorem d_Orders_join_5 : decode b_Orders_join 5 = .ok (.ifCond .ne 5, 3) := by decide +kernel
theorem d_Orders_join_8 : decode b_Orders_join 8 = .ok (.iconst 0, 1) := by decide +kernel
theorem d_Orders_join_9 : decode b_Orders_join 9 = .ok (.ireturn, 1) := by decide +kernel
theorem d_Orders_join_10 : decode b_Orders_join 10 = .ok (.aload_n 0, 1) := by decide +kernel
theorem d_Orders_join_11 : decode b_Orders_join 11 = .ok (.getfield 24, 3) := by decide +kernel
theorem d_Orders_join_14 : decode b_Orders_join 14 = .ok (.iload_n 2, 1) := by decide +kernel
theorem d_Orders_join_15 : decode b_Orders_join 15 = .ok (.invokevirtual 75, 3) := by decide +kernel
theorem d_Orders_join_18 : decode b_Orders_join 18 = .ok (.aload_n 1, 1) := by decide +kernel
theorem d_Orders_join_19 : decode b_Orders_join 19 = .ok (.getfield 66, 3) := by decide +kernel
theorem d_Orders_join_22 : decode b_Orders_join 22 = .ok (.aload_n 1, 1) := by decide +kernel
theorem d_Orders_join_23 : decode b_Orders_join 23 = .ok (.getfield 63, 3) := by decide +kernel
theorem d_Orders_join_26 : decode b_Orders_join 26 = .ok (.iconst 1, 1) := by decide +kernel
theorem d_Orders_join_27 : decode b_Orders_join 27 = .ok (.isub, 1) := by decide +kernel
theorem d_Orders_join_28 : decode b_Orders_join 28 = .ok (.aaload, 1) := by decide +kernel
theorem d_Orders_join_29 : decode b_Orders_join 29 = .ok (.invokevirtual 79, 3) := by decide +kernel
theorem d_Orders_join_32 : decode b_Orders_join 32 = .ok (.iconst 1, 1) := by decide +kernel
theorem d_Orders_join_33 : decode b_Orders_join 33 = .ok (.ireturn, 1) := by decide +kernel
theorem d_Orders_part_0 : decode b_Orders_part 0 = .ok (.aload_n 2, 1) := by decide +kernel
theorem d_Orders_part_1 : decode b_Orders_part 1 = .ok (.getfield 86, 3) := by decide +kernel
theorem d_Orders_part_4 : decode b_Orders_part 4 = .ok (.astore_n 3, 1) := by decide +kernel
theorem d_Orders_part_5 : decode b_Orders_part 5 = .ok (.aload_n 3, 1) := by decide +kernel
theorem d_Orders_part_6 : decode b_Orders_part 6 = .ok (.aload_n 2, 1) := by decide +kernel
theorem d_Orders_part_7 : decode b_Orders_part 7 = .ok (.invokevirtual 90, 3) := by decide +kernel
theorem d_Orders_part_10 : decode b_Orders_part 10 = .ok (.aload_n 3, 1) := by decide +kernel
theorem d_Orders_part_11 : decode b_Orders_part 11 = .ok (.getfield 93, 3) := by decide +kernel
theorem d_Orders_part_14 : decode b_Orders_part 14 = .ok (.ifCond .ne 11, 3) := by decide +kernel
theorem d_Orders_part_17 : decode b_Orders_part 17 = .ok (.aload_n 0, 1) := by decide +kernel
theorem d_Orders_part_18 : decode b_Orders_part 18 = .ok (.getfield 24, 3) := by decide +kernel
theorem d_Orders_part_21 : decode b_Orders_part 21 = .ok (.aload_n 3, 1) := by decide +kernel
theorem d_Orders_part_22 : decode b_Orders_part 22 = .ok (.invokevirtual 94, 3) := by decide +kernel
theorem d_Orders_part_25 : decode b_Orders_part 25 = .ok (.aload_n 1, 1) := by decide +kernel
theorem d_Orders_part_26 : decode b_Orders_part 26 = .ok (.aload_n 2, 1) := by decide +kernel
theorem d_Orders_part_27 : decode b_Orders_part 27 = .ok (.invokevirtual 101, 3) := by decide +kernel
theorem d_Orders_part_30 : decode b_Orders_part 30 = .ok (.return_, 1) := by decide +kernel
theorem d_Orders_heads_0 : decode b_Orders_heads 0 = .ok (.iconst 1, 1) := by decide +kernel
theorem d_Orders_heads_1 : decode b_Orders_heads 1 = .ok (.istore_n 2, 1) := by decide +kernel
theorem d_Orders_heads_2 : decode b_Orders_heads 2 = .ok (.iconst 0, 1) := by decide +kernel
theorem d_Orders_heads_3 : decode b_Orders_heads 3 = .ok (.istore_n 3, 1) := by decide +kernel
theorem d_Orders_heads_4 : decode b_Orders_heads 4 = .ok (.iload_n 3, 1) := by decide +kernel
theorem d_Orders_heads_5 : decode b_Orders_heads 5 = .ok (.aload_n 1, 1) := by decide +kernel
theorem d_Orders_heads_6 : decode b_Orders_heads 6 = .ok (.getfield 63, 3) := by decide +kernel
theorem d_Orders_heads_9 : decode b_Orders_heads 9 = .ok (.if_icmp .ge 31, 3) := by decide +kernel
theorem d_Orders_heads_12 : decode b_Orders_heads 12 = .ok (.iload_n 2, 1) := by decide +kernel
theorem d_Orders_heads_13 : decode b_Orders_heads 13 = .ok (.ifCond .eq 19, 3) := by decide +kernel
theorem d_Orders_heads_16 : decode b_Orders_heads 16 = .ok (.aload_n 1, 1) := by decide +kernel
theorem d_Orders_heads_17 : decode b_Orders_heads 17 = .ok (.getfield 66, 3) := by decide +kernel
theorem d_Orders_heads_20 : decode b_Orders_heads 20 = .ok (.iload_n 3, 1) := by decide +kernel
theorem d_Orders_heads_21 : decode b_Orders_heads 21 = .ok (.aaload, 1) := by decide +kernel
theorem d_Orders_heads_22 : decode b_Orders_heads 22 = .ok (.getfield 104, 3) := by decide +kernel
theorem d_Orders_heads_25 : decode b_Orders_heads 25 = .ok (.ifnonnull 7, 3) := by decide +kernel
theorem d_Orders_heads_28 : decode b_Orders_heads 28 = .ok (.iconst 1, 1) := by decide +kernel
theorem d_Orders_heads_29 : decode b_Orders_heads 29 = .ok (.goto 4, 3) := by decide +kernel
theorem d_Orders_heads_32 : decode b_Orders_heads 32 = .ok (.iconst 0, 1) := by decide +kernel
theorem d_Orders_heads_33 : decode b_Orders_heads 33 = .ok (.istore_n 2, 1) := by decide +kernel
theorem d_Orders_heads_34 : decode b_Orders_heads 34 = .ok (.iinc 3 1, 3) := by decide +kernel
theorem d_Orders_heads_37 : decode b_Orders_heads 37 = .ok (.goto (-33), 3) := by decide +kernel
theorem d_Orders_heads_40 : decode b_Orders_heads 40 = .ok (.iload_n 2, 1) := by decide +kernel
theorem d_Orders_heads_41 : decode b_Orders_heads 41 = .ok (.ireturn, 1) := by decide +kernel
theorem d_Orders_numberI_0 : decode b_Orders_numberI 0 = .ok (.aload_n 0, 1) := by decide +kernel
theorem d_Orders_numberI_1 : decode b_Orders_numberI 1 = .ok (.ifnonnull 7, 3) := by decide +kernel
theorem d_Orders_numberI_4 : decode b_Orders_numberI 4 = .ok (.iconst (-1), 1) := by decide +kernel
theorem d_Orders_numberI_5 : decode b_Orders_numberI 5 = .ok (.goto 7, 3) := by decide +kernel
theorem d_Orders_numberI_8 : decode b_Orders_numberI 8 = .ok (.aload_n 0, 1) := by decide +kernel
theorem d_Orders_numberI_9 : decode b_Orders_numberI 9 = .ok (.getfield 107, 3) := by decide +kernel
theorem d_Orders_numberI_12 : decode b_Orders_numberI 12 = .ok (.ireturn, 1) := by decide +kernel
theorem d_Orders_numberM_0 : decode b_Orders_numberM 0 = .ok (.aload_n 0, 1) := by decide +kernel
theorem d_Orders_numberM_1 : decode b_Orders_numberM 1 = .ok (.ifnonnull 7, 3) := by decide +kernel
theorem d_Orders_numberM_4 : decode b_Orders_numberM 4 = .ok (.iconst (-1), 1) := by decide +kernel
theorem d_Orders_numberM_5 : decode b_Orders_numberM 5 = .ok (.goto 10, 3) := by decide +kernel
theorem d_Orders_numberM_8 : decode b_Orders_numberM 8 = .ok (.aload_n 0, 1) := by decide +kernel
theorem d_Orders_numberM_9 : decode b_Orders_numberM 9 = .ok (.getfield 110, 3) := by decide +kernel
theorem d_Orders_numberM_12 : decode b_Orders_numberM 12 = .ok (.getfield 107, 3) := by decide +kernel
theorem d_Orders_numberM_15 : decode b_Orders_numberM 15 = .ok (.ireturn, 1) := by decide +kernel
end
section
theorem d_law_0 : decode code 0 = .ok (.new 7, 3) := by decide +kernel
theorem d_law_3 : decode code 3 = .ok (.dup, 1) := by decide +kernel
theorem d_law_4 : decode code 4 = .ok (.invokespecial 9, 3) := by decide +kernel
theorem d_law_7 : decode code 7 = .ok (.astore_n 1, 1) := by decide +kernel
theorem d_law_8 : decode code 8 = .ok (.new 10, 3) := by decide +kernel
theorem d_law_11 : decode code 11 = .ok (.dup, 1) := by decide +kernel
theorem d_law_12 : decode code 12 = .ok (.invokespecial 12, 3) := by decide +kernel
theorem d_law_15 : decode code 15 = .ok (.astore_n 2, 1) := by decide +kernel
theorem d_law_16 : decode code 16 = .ok (.iconst 0, 1) := by decide +kernel
theorem d_law_17 : decode code 17 = .ok (.istore_n 3, 1) := by decide +kernel
theorem d_law_18 : decode code 18 = .ok (.iload_n 3, 1) := by decide +kernel
theorem d_law_19 : decode code 19 = .ok (.aload_n 0, 1) := by decide +kernel
theorem d_law_20 : decode code 20 = .ok (.arraylength, 1) := by decide +kernel
theorem d_law_21 : decode code 21 = .ok (.iconst 3, 1) := by decide +kernel
theorem d_law_22 : decode code 22 = .ok (.isub, 1) := by decide +kernel
theorem d_law_23 : decode code 23 = .ok (.if_icmp .gt 523, 3) := by decide +kernel
theorem d_law_26 : decode code 26 = .ok (.aload_n 0, 1) := by decide +kernel
theorem d_law_27 : decode code 27 = .ok (.iload_n 3, 1) := by decide +kernel
theorem d_law_28 : decode code 28 = .ok (.iaload, 1) := by decide +kernel
theorem d_law_29 : decode code 29 = .ok (.bipush 15, 2) := by decide +kernel
theorem d_law_31 : decode code 31 = .ok (.iand, 1) := by decide +kernel
theorem d_law_32 : decode code 32 = .ok (.tableswitch 508 0 15 #[80, 113, 146, 169, 202, 235, 268, 291, 324, 337, 360, 383, 406, 439, 462, 495], 80) := by decide +kernel
theorem d_law_112 : decode code 112 = .ok (.aload_n 1, 1) := by decide +kernel
theorem d_law_113 : decode code 113 = .ok (.aload_n 0, 1) := by decide +kernel
theorem d_law_114 : decode code 114 = .ok (.iload_n 3, 1) := by decide +kernel
theorem d_law_115 : decode code 115 = .ok (.iconst 1, 1) := by decide +kernel
theorem d_law_116 : decode code 116 = .ok (.iadd, 1) := by decide +kernel
theorem d_law_117 : decode code 117 = .ok (.iaload, 1) := by decide +kernel
theorem d_law_118 : decode code 118 = .ok (.aload_n 0, 1) := by decide +kernel
theorem d_law_119 : decode code 119 = .ok (.iload_n 3, 1) := by decide +kernel
theorem d_law_120 : decode code 120 = .ok (.iconst 2, 1) := by decide +kernel
theorem d_law_121 : decode code 121 = .ok (.iadd, 1) := by decide +kernel
theorem d_law_122 : decode code 122 = .ok (.iaload, 1) := by decide +kernel
theorem d_law_123 : decode code 123 = .ok (.invokevirtual 13, 3) := by decide +kernel
theorem d_law_126 : decode code 126 = .ok (.aload_n 2, 1) := by decide +kernel
theorem d_law_127 : decode code 127 = .ok (.aload_n 0, 1) := by decide +kernel
theorem d_law_128 : decode code 128 = .ok (.iload_n 3, 1) := by decide +kernel
theorem d_law_129 : decode code 129 = .ok (.iconst 1, 1) := by decide +kernel
theorem d_law_130 : decode code 130 = .ok (.iadd, 1) := by decide +kernel
theorem d_law_131 : decode code 131 = .ok (.iaload, 1) := by decide +kernel
theorem d_law_132 : decode code 132 = .ok (.aload_n 0, 1) := by decide +kernel
theorem d_law_133 : decode code 133 = .ok (.iload_n 3, 1) := by decide +kernel
theorem d_law_134 : decode code 134 = .ok (.iconst 2, 1) := by decide +kernel
theorem d_law_135 : decode code 135 = .ok (.iadd, 1) := by decide +kernel
theorem d_law_136 : decode code 136 = .ok (.iaload, 1) := by decide +kernel
theorem d_law_137 : decode code 137 = .ok (.invokevirtual 17, 3) := by decide +kernel
theorem d_law_140 : decode code 140 = .ok (.if_icmp .eq 400, 3) := by decide +kernel
theorem d_law_143 : decode code 143 = .ok (.iconst 0, 1) := by decide +kernel
theorem d_law_144 : decode code 144 = .ok (.ireturn, 1) := by decide +kernel
theorem d_law_145 : decode code 145 = .ok (.aload_n 1, 1) := by decide +kernel
theorem d_law_146 : decode code 146 = .ok (.aload_n 0, 1) := by decide +kernel
theorem d_law_147 : decode code 147 = .ok (.iload_n 3, 1) := by decide +kernel
theorem d_law_148 : decode code 148 = .ok (.iconst 1, 1) := by decide +kernel
theorem d_law_149 : decode code 149 = .ok (.iadd, 1) := by decide +kernel
theorem d_law_150 : decode code 150 = .ok (.iaload, 1) := by decide +kernel
theorem d_law_151 : decode code 151 = .ok (.aload_n 0, 1) := by decide +kernel
theorem d_law_152 : decode code 152 = .ok (.iload_n 3, 1) := by decide +kernel
theorem d_law_153 : decode code 153 = .ok (.iconst 2, 1) := by decide +kernel
theorem d_law_154 : decode code 154 = .ok (.iadd, 1) := by decide +kernel
theorem d_law_155 : decode code 155 = .ok (.iaload, 1) := by decide +kernel
end
section
theorem d_law_156 : decode code 156 = .ok (.invokevirtual 18, 3) := by decide +kernel
theorem d_law_159 : decode code 159 = .ok (.aload_n 2, 1) := by decide +kernel
theorem d_law_160 : decode code 160 = .ok (.aload_n 0, 1) := by decide +kernel
theorem d_law_161 : decode code 161 = .ok (.iload_n 3, 1) := by decide +kernel
theorem d_law_162 : decode code 162 = .ok (.iconst 1, 1) := by decide +kernel
theorem d_law_163 : decode code 163 = .ok (.iadd, 1) := by decide +kernel
theorem d_law_164 : decode code 164 = .ok (.iaload, 1) := by decide +kernel
theorem d_law_165 : decode code 165 = .ok (.aload_n 0, 1) := by decide +kernel
theorem d_law_166 : decode code 166 = .ok (.iload_n 3, 1) := by decide +kernel
theorem d_law_167 : decode code 167 = .ok (.iconst 2, 1) := by decide +kernel
theorem d_law_168 : decode code 168 = .ok (.iadd, 1) := by decide +kernel
theorem d_law_169 : decode code 169 = .ok (.iaload, 1) := by decide +kernel
theorem d_law_170 : decode code 170 = .ok (.invokevirtual 22, 3) := by decide +kernel
theorem d_law_173 : decode code 173 = .ok (.if_icmp .eq 367, 3) := by decide +kernel
theorem d_law_176 : decode code 176 = .ok (.iconst 0, 1) := by decide +kernel
theorem d_law_177 : decode code 177 = .ok (.ireturn, 1) := by decide +kernel
theorem d_law_178 : decode code 178 = .ok (.aload_n 1, 1) := by decide +kernel
theorem d_law_179 : decode code 179 = .ok (.aload_n 0, 1) := by decide +kernel
theorem d_law_180 : decode code 180 = .ok (.iload_n 3, 1) := by decide +kernel
theorem d_law_181 : decode code 181 = .ok (.iconst 1, 1) := by decide +kernel
theorem d_law_182 : decode code 182 = .ok (.iadd, 1) := by decide +kernel
theorem d_law_183 : decode code 183 = .ok (.iaload, 1) := by decide +kernel
theorem d_law_184 : decode code 184 = .ok (.invokevirtual 23, 3) := by decide +kernel
theorem d_law_187 : decode code 187 = .ok (.aload_n 2, 1) := by decide +kernel
theorem d_law_188 : decode code 188 = .ok (.aload_n 0, 1) := by decide +kernel
theorem d_law_189 : decode code 189 = .ok (.iload_n 3, 1) := by decide +kernel
theorem d_law_190 : decode code 190 = .ok (.iconst 1, 1) := by decide +kernel
theorem d_law_191 : decode code 191 = .ok (.iadd, 1) := by decide +kernel
theorem d_law_192 : decode code 192 = .ok (.iaload, 1) := by decide +kernel
theorem d_law_193 : decode code 193 = .ok (.invokevirtual 27, 3) := by decide +kernel
theorem d_law_196 : decode code 196 = .ok (.if_icmp .eq 344, 3) := by decide +kernel
theorem d_law_199 : decode code 199 = .ok (.iconst 0, 1) := by decide +kernel
theorem d_law_200 : decode code 200 = .ok (.ireturn, 1) := by decide +kernel
theorem d_law_201 : decode code 201 = .ok (.aload_n 1, 1) := by decide +kernel
theorem d_law_202 : decode code 202 = .ok (.aload_n 0, 1) := by decide +kernel
theorem d_law_203 : decode code 203 = .ok (.iload_n 3, 1) := by decide +kernel
theorem d_law_204 : decode code 204 = .ok (.iconst 1, 1) := by decide +kernel
theorem d_law_205 : decode code 205 = .ok (.iadd, 1) := by decide +kernel
theorem d_law_206 : decode code 206 = .ok (.iaload, 1) := by decide +kernel
theorem d_law_207 : decode code 207 = .ok (.aload_n 0, 1) := by decide +kernel
theorem d_law_208 : decode code 208 = .ok (.iload_n 3, 1) := by decide +kernel
theorem d_law_209 : decode code 209 = .ok (.iconst 2, 1) := by decide +kernel
theorem d_law_210 : decode code 210 = .ok (.iadd, 1) := by decide +kernel
theorem d_law_211 : decode code 211 = .ok (.iaload, 1) := by decide +kernel
theorem d_law_212 : decode code 212 = .ok (.invokevirtual 28, 3) := by decide +kernel
theorem d_law_215 : decode code 215 = .ok (.aload_n 2, 1) := by decide +kernel
theorem d_law_216 : decode code 216 = .ok (.aload_n 0, 1) := by decide +kernel
theorem d_law_217 : decode code 217 = .ok (.iload_n 3, 1) := by decide +kernel
theorem d_law_218 : decode code 218 = .ok (.iconst 1, 1) := by decide +kernel
theorem d_law_219 : decode code 219 = .ok (.iadd, 1) := by decide +kernel
theorem d_law_220 : decode code 220 = .ok (.iaload, 1) := by decide +kernel
theorem d_law_221 : decode code 221 = .ok (.aload_n 0, 1) := by decide +kernel
theorem d_law_222 : decode code 222 = .ok (.iload_n 3, 1) := by decide +kernel
theorem d_law_223 : decode code 223 = .ok (.iconst 2, 1) := by decide +kernel
theorem d_law_224 : decode code 224 = .ok (.iadd, 1) := by decide +kernel
theorem d_law_225 : decode code 225 = .ok (.iaload, 1) := by decide +kernel
theorem d_law_226 : decode code 226 = .ok (.invokevirtual 31, 3) := by decide +kernel
theorem d_law_229 : decode code 229 = .ok (.if_icmp .eq 311, 3) := by decide +kernel
theorem d_law_232 : decode code 232 = .ok (.iconst 0, 1) := by decide +kernel
theorem d_law_233 : decode code 233 = .ok (.ireturn, 1) := by decide +kernel
end
section
theorem d_law_234 : decode code 234 = .ok (.aload_n 1, 1) := by decide +kernel
theorem d_law_235 : decode code 235 = .ok (.aload_n 0, 1) := by decide +kernel
theorem d_law_236 : decode code 236 = .ok (.iload_n 3, 1) := by decide +kernel
theorem d_law_237 : decode code 237 = .ok (.iconst 1, 1) := by decide +kernel
theorem d_law_238 : decode code 238 = .ok (.iadd, 1) := by decide +kernel
theorem d_law_239 : decode code 239 = .ok (.iaload, 1) := by decide +kernel
theorem d_law_240 : decode code 240 = .ok (.aload_n 0, 1) := by decide +kernel
theorem d_law_241 : decode code 241 = .ok (.iload_n 3, 1) := by decide +kernel
theorem d_law_242 : decode code 242 = .ok (.iconst 2, 1) := by decide +kernel
theorem d_law_243 : decode code 243 = .ok (.iadd, 1) := by decide +kernel
theorem d_law_244 : decode code 244 = .ok (.iaload, 1) := by decide +kernel
theorem d_law_245 : decode code 245 = .ok (.invokevirtual 32, 3) := by decide +kernel
theorem d_law_248 : decode code 248 = .ok (.aload_n 2, 1) := by decide +kernel
theorem d_law_249 : decode code 249 = .ok (.aload_n 0, 1) := by decide +kernel
theorem d_law_250 : decode code 250 = .ok (.iload_n 3, 1) := by decide +kernel
theorem d_law_251 : decode code 251 = .ok (.iconst 1, 1) := by decide +kernel
theorem d_law_252 : decode code 252 = .ok (.iadd, 1) := by decide +kernel
theorem d_law_253 : decode code 253 = .ok (.iaload, 1) := by decide +kernel
theorem d_law_254 : decode code 254 = .ok (.aload_n 0, 1) := by decide +kernel
theorem d_law_255 : decode code 255 = .ok (.iload_n 3, 1) := by decide +kernel
theorem d_law_256 : decode code 256 = .ok (.iconst 2, 1) := by decide +kernel
theorem d_law_257 : decode code 257 = .ok (.iadd, 1) := by decide +kernel
theorem d_law_258 : decode code 258 = .ok (.iaload, 1) := by decide +kernel
theorem d_law_259 : decode code 259 = .ok (.invokevirtual 35, 3) := by decide +kernel
theorem d_law_262 : decode code 262 = .ok (.if_icmp .eq 278, 3) := by decide +kernel
theorem d_law_265 : decode code 265 = .ok (.iconst 0, 1) := by decide +kernel
theorem d_law_266 : decode code 266 = .ok (.ireturn, 1) := by decide +kernel
theorem d_law_267 : decode code 267 = .ok (.aload_n 1, 1) := by decide +kernel
theorem d_law_268 : decode code 268 = .ok (.aload_n 0, 1) := by decide +kernel
theorem d_law_269 : decode code 269 = .ok (.iload_n 3, 1) := by decide +kernel
theorem d_law_270 : decode code 270 = .ok (.iconst 1, 1) := by decide +kernel
theorem d_law_271 : decode code 271 = .ok (.iadd, 1) := by decide +kernel
theorem d_law_272 : decode code 272 = .ok (.iaload, 1) := by decide +kernel
theorem d_law_273 : decode code 273 = .ok (.aload_n 0, 1) := by decide +kernel
theorem d_law_274 : decode code 274 = .ok (.iload_n 3, 1) := by decide +kernel
theorem d_law_275 : decode code 275 = .ok (.iconst 2, 1) := by decide +kernel
theorem d_law_276 : decode code 276 = .ok (.iadd, 1) := by decide +kernel
theorem d_law_277 : decode code 277 = .ok (.iaload, 1) := by decide +kernel
theorem d_law_278 : decode code 278 = .ok (.invokevirtual 36, 3) := by decide +kernel
theorem d_law_281 : decode code 281 = .ok (.aload_n 2, 1) := by decide +kernel
theorem d_law_282 : decode code 282 = .ok (.aload_n 0, 1) := by decide +kernel
theorem d_law_283 : decode code 283 = .ok (.iload_n 3, 1) := by decide +kernel
theorem d_law_284 : decode code 284 = .ok (.iconst 1, 1) := by decide +kernel
theorem d_law_285 : decode code 285 = .ok (.iadd, 1) := by decide +kernel
theorem d_law_286 : decode code 286 = .ok (.iaload, 1) := by decide +kernel
theorem d_law_287 : decode code 287 = .ok (.aload_n 0, 1) := by decide +kernel
theorem d_law_288 : decode code 288 = .ok (.iload_n 3, 1) := by decide +kernel
theorem d_law_289 : decode code 289 = .ok (.iconst 2, 1) := by decide +kernel
theorem d_law_290 : decode code 290 = .ok (.iadd, 1) := by decide +kernel
theorem d_law_291 : decode code 291 = .ok (.iaload, 1) := by decide +kernel
theorem d_law_292 : decode code 292 = .ok (.invokevirtual 39, 3) := by decide +kernel
theorem d_law_295 : decode code 295 = .ok (.if_icmp .eq 245, 3) := by decide +kernel
theorem d_law_298 : decode code 298 = .ok (.iconst 0, 1) := by decide +kernel
theorem d_law_299 : decode code 299 = .ok (.ireturn, 1) := by decide +kernel
theorem d_law_300 : decode code 300 = .ok (.aload_n 1, 1) := by decide +kernel
theorem d_law_301 : decode code 301 = .ok (.aload_n 0, 1) := by decide +kernel
theorem d_law_302 : decode code 302 = .ok (.iload_n 3, 1) := by decide +kernel
theorem d_law_303 : decode code 303 = .ok (.iconst 1, 1) := by decide +kernel
theorem d_law_304 : decode code 304 = .ok (.iadd, 1) := by decide +kernel
theorem d_law_305 : decode code 305 = .ok (.iaload, 1) := by decide +kernel
end
section
theorem d_law_306 : decode code 306 = .ok (.invokevirtual 40, 3) := by decide +kernel
theorem d_law_309 : decode code 309 = .ok (.aload_n 2, 1) := by decide +kernel
theorem d_law_310 : decode code 310 = .ok (.aload_n 0, 1) := by decide +kernel
theorem d_law_311 : decode code 311 = .ok (.iload_n 3, 1) := by decide +kernel
theorem d_law_312 : decode code 312 = .ok (.iconst 1, 1) := by decide +kernel
theorem d_law_313 : decode code 313 = .ok (.iadd, 1) := by decide +kernel
theorem d_law_314 : decode code 314 = .ok (.iaload, 1) := by decide +kernel
theorem d_law_315 : decode code 315 = .ok (.invokevirtual 43, 3) := by decide +kernel
theorem d_law_318 : decode code 318 = .ok (.if_icmp .eq 222, 3) := by decide +kernel
theorem d_law_321 : decode code 321 = .ok (.iconst 0, 1) := by decide +kernel
theorem d_law_322 : decode code 322 = .ok (.ireturn, 1) := by decide +kernel
theorem d_law_323 : decode code 323 = .ok (.aload_n 1, 1) := by decide +kernel
theorem d_law_324 : decode code 324 = .ok (.aload_n 0, 1) := by decide +kernel
theorem d_law_325 : decode code 325 = .ok (.iload_n 3, 1) := by decide +kernel
theorem d_law_326 : decode code 326 = .ok (.iconst 1, 1) := by decide +kernel
theorem d_law_327 : decode code 327 = .ok (.iadd, 1) := by decide +kernel
theorem d_law_328 : decode code 328 = .ok (.iaload, 1) := by decide +kernel
theorem d_law_329 : decode code 329 = .ok (.aload_n 0, 1) := by decide +kernel
theorem d_law_330 : decode code 330 = .ok (.iload_n 3, 1) := by decide +kernel
theorem d_law_331 : decode code 331 = .ok (.iconst 2, 1) := by decide +kernel
theorem d_law_332 : decode code 332 = .ok (.iadd, 1) := by decide +kernel
theorem d_law_333 : decode code 333 = .ok (.iaload, 1) := by decide +kernel
theorem d_law_334 : decode code 334 = .ok (.invokevirtual 44, 3) := by decide +kernel
theorem d_law_337 : decode code 337 = .ok (.aload_n 2, 1) := by decide +kernel
theorem d_law_338 : decode code 338 = .ok (.aload_n 0, 1) := by decide +kernel
theorem d_law_339 : decode code 339 = .ok (.iload_n 3, 1) := by decide +kernel
theorem d_law_340 : decode code 340 = .ok (.iconst 1, 1) := by decide +kernel
theorem d_law_341 : decode code 341 = .ok (.iadd, 1) := by decide +kernel
theorem d_law_342 : decode code 342 = .ok (.iaload, 1) := by decide +kernel
theorem d_law_343 : decode code 343 = .ok (.aload_n 0, 1) := by decide +kernel
theorem d_law_344 : decode code 344 = .ok (.iload_n 3, 1) := by decide +kernel
theorem d_law_345 : decode code 345 = .ok (.iconst 2, 1) := by decide +kernel
theorem d_law_346 : decode code 346 = .ok (.iadd, 1) := by decide +kernel
theorem d_law_347 : decode code 347 = .ok (.iaload, 1) := by decide +kernel
theorem d_law_348 : decode code 348 = .ok (.invokevirtual 47, 3) := by decide +kernel
theorem d_law_351 : decode code 351 = .ok (.if_icmp .eq 189, 3) := by decide +kernel
theorem d_law_354 : decode code 354 = .ok (.iconst 0, 1) := by decide +kernel
theorem d_law_355 : decode code 355 = .ok (.ireturn, 1) := by decide +kernel
theorem d_law_356 : decode code 356 = .ok (.aload_n 1, 1) := by decide +kernel
theorem d_law_357 : decode code 357 = .ok (.invokevirtual 48, 3) := by decide +kernel
theorem d_law_360 : decode code 360 = .ok (.aload_n 2, 1) := by decide +kernel
theorem d_law_361 : decode code 361 = .ok (.invokevirtual 52, 3) := by decide +kernel
theorem d_law_364 : decode code 364 = .ok (.if_icmp .eq 176, 3) := by decide +kernel
theorem d_law_367 : decode code 367 = .ok (.iconst 0, 1) := by decide +kernel
theorem d_law_368 : decode code 368 = .ok (.ireturn, 1) := by decide +kernel
theorem d_law_369 : decode code 369 = .ok (.aload_n 1, 1) := by decide +kernel
theorem d_law_370 : decode code 370 = .ok (.aload_n 0, 1) := by decide +kernel
theorem d_law_371 : decode code 371 = .ok (.iload_n 3, 1) := by decide +kernel
theorem d_law_372 : decode code 372 = .ok (.iconst 1, 1) := by decide +kernel
theorem d_law_373 : decode code 373 = .ok (.iadd, 1) := by decide +kernel
theorem d_law_374 : decode code 374 = .ok (.iaload, 1) := by decide +kernel
theorem d_law_375 : decode code 375 = .ok (.invokevirtual 53, 3) := by decide +kernel
theorem d_law_378 : decode code 378 = .ok (.aload_n 2, 1) := by decide +kernel
theorem d_law_379 : decode code 379 = .ok (.aload_n 0, 1) := by decide +kernel
theorem d_law_380 : decode code 380 = .ok (.iload_n 3, 1) := by decide +kernel
theorem d_law_381 : decode code 381 = .ok (.iconst 1, 1) := by decide +kernel
theorem d_law_382 : decode code 382 = .ok (.iadd, 1) := by decide +kernel
theorem d_law_383 : decode code 383 = .ok (.iaload, 1) := by decide +kernel
theorem d_law_384 : decode code 384 = .ok (.invokevirtual 57, 3) := by decide +kernel
theorem d_law_387 : decode code 387 = .ok (.if_icmp .eq 153, 3) := by decide +kernel
end
section
theorem d_law_390 : decode code 390 = .ok (.iconst 0, 1) := by decide +kernel
theorem d_law_391 : decode code 391 = .ok (.ireturn, 1) := by decide +kernel
theorem d_law_392 : decode code 392 = .ok (.aload_n 1, 1) := by decide +kernel
theorem d_law_393 : decode code 393 = .ok (.aload_n 0, 1) := by decide +kernel
theorem d_law_394 : decode code 394 = .ok (.iload_n 3, 1) := by decide +kernel
theorem d_law_395 : decode code 395 = .ok (.iconst 1, 1) := by decide +kernel
theorem d_law_396 : decode code 396 = .ok (.iadd, 1) := by decide +kernel
theorem d_law_397 : decode code 397 = .ok (.iaload, 1) := by decide +kernel
theorem d_law_398 : decode code 398 = .ok (.invokevirtual 58, 3) := by decide +kernel
theorem d_law_401 : decode code 401 = .ok (.aload_n 2, 1) := by decide +kernel
theorem d_law_402 : decode code 402 = .ok (.aload_n 0, 1) := by decide +kernel
theorem d_law_403 : decode code 403 = .ok (.iload_n 3, 1) := by decide +kernel
theorem d_law_404 : decode code 404 = .ok (.iconst 1, 1) := by decide +kernel
theorem d_law_405 : decode code 405 = .ok (.iadd, 1) := by decide +kernel
theorem d_law_406 : decode code 406 = .ok (.iaload, 1) := by decide +kernel
theorem d_law_407 : decode code 407 = .ok (.invokevirtual 61, 3) := by decide +kernel
theorem d_law_410 : decode code 410 = .ok (.if_icmp .eq 130, 3) := by decide +kernel
theorem d_law_413 : decode code 413 = .ok (.iconst 0, 1) := by decide +kernel
theorem d_law_414 : decode code 414 = .ok (.ireturn, 1) := by decide +kernel
theorem d_law_415 : decode code 415 = .ok (.aload_n 1, 1) := by decide +kernel
theorem d_law_416 : decode code 416 = .ok (.aload_n 0, 1) := by decide +kernel
theorem d_law_417 : decode code 417 = .ok (.iload_n 3, 1) := by decide +kernel
theorem d_law_418 : decode code 418 = .ok (.iconst 1, 1) := by decide +kernel
theorem d_law_419 : decode code 419 = .ok (.iadd, 1) := by decide +kernel
theorem d_law_420 : decode code 420 = .ok (.iaload, 1) := by decide +kernel
theorem d_law_421 : decode code 421 = .ok (.invokevirtual 62, 3) := by decide +kernel
theorem d_law_424 : decode code 424 = .ok (.aload_n 2, 1) := by decide +kernel
theorem d_law_425 : decode code 425 = .ok (.aload_n 0, 1) := by decide +kernel
theorem d_law_426 : decode code 426 = .ok (.iload_n 3, 1) := by decide +kernel
theorem d_law_427 : decode code 427 = .ok (.iconst 1, 1) := by decide +kernel
theorem d_law_428 : decode code 428 = .ok (.iadd, 1) := by decide +kernel
theorem d_law_429 : decode code 429 = .ok (.iaload, 1) := by decide +kernel
theorem d_law_430 : decode code 430 = .ok (.invokevirtual 65, 3) := by decide +kernel
theorem d_law_433 : decode code 433 = .ok (.if_icmp .eq 107, 3) := by decide +kernel
theorem d_law_436 : decode code 436 = .ok (.iconst 0, 1) := by decide +kernel
theorem d_law_437 : decode code 437 = .ok (.ireturn, 1) := by decide +kernel
theorem d_law_438 : decode code 438 = .ok (.aload_n 1, 1) := by decide +kernel
theorem d_law_439 : decode code 439 = .ok (.aload_n 0, 1) := by decide +kernel
theorem d_law_440 : decode code 440 = .ok (.iload_n 3, 1) := by decide +kernel
theorem d_law_441 : decode code 441 = .ok (.iconst 1, 1) := by decide +kernel
theorem d_law_442 : decode code 442 = .ok (.iadd, 1) := by decide +kernel
theorem d_law_443 : decode code 443 = .ok (.iaload, 1) := by decide +kernel
theorem d_law_444 : decode code 444 = .ok (.aload_n 0, 1) := by decide +kernel
theorem d_law_445 : decode code 445 = .ok (.iload_n 3, 1) := by decide +kernel
theorem d_law_446 : decode code 446 = .ok (.iconst 2, 1) := by decide +kernel
theorem d_law_447 : decode code 447 = .ok (.iadd, 1) := by decide +kernel
theorem d_law_448 : decode code 448 = .ok (.iaload, 1) := by decide +kernel
theorem d_law_449 : decode code 449 = .ok (.invokevirtual 66, 3) := by decide +kernel
theorem d_law_452 : decode code 452 = .ok (.aload_n 2, 1) := by decide +kernel
theorem d_law_453 : decode code 453 = .ok (.aload_n 0, 1) := by decide +kernel
theorem d_law_454 : decode code 454 = .ok (.iload_n 3, 1) := by decide +kernel
theorem d_law_455 : decode code 455 = .ok (.iconst 1, 1) := by decide +kernel
theorem d_law_456 : decode code 456 = .ok (.iadd, 1) := by decide +kernel
theorem d_law_457 : decode code 457 = .ok (.iaload, 1) := by decide +kernel
theorem d_law_458 : decode code 458 = .ok (.aload_n 0, 1) := by decide +kernel
theorem d_law_459 : decode code 459 = .ok (.iload_n 3, 1) := by decide +kernel
theorem d_law_460 : decode code 460 = .ok (.iconst 2, 1) := by decide +kernel
theorem d_law_461 : decode code 461 = .ok (.iadd, 1) := by decide +kernel
theorem d_law_462 : decode code 462 = .ok (.iaload, 1) := by decide +kernel
theorem d_law_463 : decode code 463 = .ok (.invokevirtual 69, 3) := by decide +kernel
end
section
theorem d_law_466 : decode code 466 = .ok (.if_icmp .eq 74, 3) := by decide +kernel
theorem d_law_469 : decode code 469 = .ok (.iconst 0, 1) := by decide +kernel
theorem d_law_470 : decode code 470 = .ok (.ireturn, 1) := by decide +kernel
theorem d_law_471 : decode code 471 = .ok (.aload_n 1, 1) := by decide +kernel
theorem d_law_472 : decode code 472 = .ok (.aload_n 0, 1) := by decide +kernel
theorem d_law_473 : decode code 473 = .ok (.iload_n 3, 1) := by decide +kernel
theorem d_law_474 : decode code 474 = .ok (.iconst 1, 1) := by decide +kernel
theorem d_law_475 : decode code 475 = .ok (.iadd, 1) := by decide +kernel
theorem d_law_476 : decode code 476 = .ok (.iaload, 1) := by decide +kernel
theorem d_law_477 : decode code 477 = .ok (.invokevirtual 70, 3) := by decide +kernel
theorem d_law_480 : decode code 480 = .ok (.aload_n 2, 1) := by decide +kernel
theorem d_law_481 : decode code 481 = .ok (.aload_n 0, 1) := by decide +kernel
theorem d_law_482 : decode code 482 = .ok (.iload_n 3, 1) := by decide +kernel
theorem d_law_483 : decode code 483 = .ok (.iconst 1, 1) := by decide +kernel
theorem d_law_484 : decode code 484 = .ok (.iadd, 1) := by decide +kernel
theorem d_law_485 : decode code 485 = .ok (.iaload, 1) := by decide +kernel
theorem d_law_486 : decode code 486 = .ok (.invokevirtual 73, 3) := by decide +kernel
theorem d_law_489 : decode code 489 = .ok (.if_icmp .eq 51, 3) := by decide +kernel
theorem d_law_492 : decode code 492 = .ok (.iconst 0, 1) := by decide +kernel
theorem d_law_493 : decode code 493 = .ok (.ireturn, 1) := by decide +kernel
theorem d_law_494 : decode code 494 = .ok (.aload_n 1, 1) := by decide +kernel
theorem d_law_495 : decode code 495 = .ok (.aload_n 0, 1) := by decide +kernel
theorem d_law_496 : decode code 496 = .ok (.iload_n 3, 1) := by decide +kernel
theorem d_law_497 : decode code 497 = .ok (.iconst 1, 1) := by decide +kernel
theorem d_law_498 : decode code 498 = .ok (.iadd, 1) := by decide +kernel
theorem d_law_499 : decode code 499 = .ok (.iaload, 1) := by decide +kernel
theorem d_law_500 : decode code 500 = .ok (.aload_n 0, 1) := by decide +kernel
theorem d_law_501 : decode code 501 = .ok (.iload_n 3, 1) := by decide +kernel
theorem d_law_502 : decode code 502 = .ok (.iconst 2, 1) := by decide +kernel
theorem d_law_503 : decode code 503 = .ok (.iadd, 1) := by decide +kernel
theorem d_law_504 : decode code 504 = .ok (.iaload, 1) := by decide +kernel
theorem d_law_505 : decode code 505 = .ok (.invokevirtual 74, 3) := by decide +kernel
theorem d_law_508 : decode code 508 = .ok (.aload_n 2, 1) := by decide +kernel
theorem d_law_509 : decode code 509 = .ok (.aload_n 0, 1) := by decide +kernel
theorem d_law_510 : decode code 510 = .ok (.iload_n 3, 1) := by decide +kernel
theorem d_law_511 : decode code 511 = .ok (.iconst 1, 1) := by decide +kernel
theorem d_law_512 : decode code 512 = .ok (.iadd, 1) := by decide +kernel
theorem d_law_513 : decode code 513 = .ok (.iaload, 1) := by decide +kernel
theorem d_law_514 : decode code 514 = .ok (.aload_n 0, 1) := by decide +kernel
theorem d_law_515 : decode code 515 = .ok (.iload_n 3, 1) := by decide +kernel
theorem d_law_516 : decode code 516 = .ok (.iconst 2, 1) := by decide +kernel
theorem d_law_517 : decode code 517 = .ok (.iadd, 1) := by decide +kernel
theorem d_law_518 : decode code 518 = .ok (.iaload, 1) := by decide +kernel
theorem d_law_519 : decode code 519 = .ok (.invokevirtual 77, 3) := by decide +kernel
theorem d_law_522 : decode code 522 = .ok (.if_icmp .eq 18, 3) := by decide +kernel
theorem d_law_525 : decode code 525 = .ok (.iconst 0, 1) := by decide +kernel
theorem d_law_526 : decode code 526 = .ok (.ireturn, 1) := by decide +kernel
theorem d_law_527 : decode code 527 = .ok (.aload_n 1, 1) := by decide +kernel
theorem d_law_528 : decode code 528 = .ok (.invokevirtual 78, 3) := by decide +kernel
theorem d_law_531 : decode code 531 = .ok (.aload_n 2, 1) := by decide +kernel
theorem d_law_532 : decode code 532 = .ok (.invokevirtual 81, 3) := by decide +kernel
theorem d_law_535 : decode code 535 = .ok (.if_icmp .eq 5, 3) := by decide +kernel
theorem d_law_538 : decode code 538 = .ok (.iconst 0, 1) := by decide +kernel
theorem d_law_539 : decode code 539 = .ok (.ireturn, 1) := by decide +kernel
theorem d_law_540 : decode code 540 = .ok (.iinc 3 3, 3) := by decide +kernel
theorem d_law_543 : decode code 543 = .ok (.goto (-525), 3) := by decide +kernel
theorem d_law_546 : decode code 546 = .ok (.iconst 1, 1) := by decide +kernel
theorem d_law_547 : decode code 547 = .ok (.ireturn, 1) := by decide +kernel
end
section
/-! posts: an int, a reference, nothing; the picture behind -/
theorem cat_int (x : Int32) : (Value.int x).category = 1 := rfl
def bI (b : Bool) : Int32 := cond b 1 0
theorem nar_bI (b : Bool) : narrow .boolean (.int (bI b)) = .int (bI b) := by cases b <;> rfl
theorem bI_inj {a b : Bool} (h : bI a = bI b) : a = b := by cases a <;> cases b <;> first | rfl | exact absurd h (by decide)
theorem bI_0 {b : Bool} : bI b = 0 ↔ b = false := by cases b <;> simp [bI]
def pI (r : Int32) (tt : jT) (mi : jI) (mr : jR) : jPost := fun v tt' mi' mr' => v = some (.int r) ∧ tt' = tt ∧ mi' = mi ∧ mr' = mr
def pR (r : Option Nat) (tt : jT) (mi : jI) (mr : jR) : jPost := fun v tt' mi' mr' => v = some (va_rf r) ∧ tt' = tt ∧ mi' = mi ∧ mr' = mr
def pV (tt : jT) (mi : jI) (mr : jR) : jPost := fun v tt' mi' mr' => v = none ∧ tt' = tt ∧ mi' = mi ∧ mr' = mr
section JC
variable {X : jX} {cc : ByteArray} {own : String} {n lev mc ms : Nat} {tt tt1 : jT} {mi mi1 : jI} {mr mr1 : jR} {ce sl pc : Nat} {lv : List (Option Value)} {st : List Value}
theorem j_callVi (C : jok X cc own n lev mc ms) {ix lev' mc' ms' nb k b c : Nat} {y : MethodName} {cb : ByteArray} {ret : Option FieldType} {r : Int32} (As : List Value) {st : List Value} (hd : decode cc pc = .ok (.invokevirtual ix, 3)) (hM : ML own ix y k) (hV : MV y) (hk : Cond.code y cb nb ret ∈ gw) (hc : ∃ T N, classes[c]? = some (y.cls, T, N)) (hb0 : tt b = some (.inl c)) (hCt : Ct (jLa X) (jDa X) (jN0 X) lev' mc' ms' y cb nb ret (va_rf (some b) :: As) tt mi mr (pI r tt1 mi1 mr1)) (hlev : lev' < lev) (hnb : nb ≤ 11) (hAs : As.length = k) (hce : ce + mc' ≤ mc) (hsl : sl + ms' ≤ ms) (hlv : lv.length = n) (hst : (st.map fun v => v.category).sum ≤ 8) (kk : J X tt1 mi1 mr1 (ce + mc') (sl + ms') (pc + 3) lv (.int r :: st)) : J X tt mi mr ce sl pc lv (As.reverse ++ va_rf (some b) :: st) := j_callV C As hd hM hV hk hc hb0 hCt hlev hnb hAs hce hsl hlv hst (fun v t i m h => by obtain ⟨rfl, rfl, rfl, rfl⟩ := h; exact kk)
theorem j_callSi (C : jok X cc own n lev mc ms) {ix lev' mc' ms' nb k : Nat} {y : MethodName} {cb : ByteArray} {ret : Option FieldType} {r : Int32} (As : List Value) {st : List Value} (hd : decode cc pc = .ok (.invokestatic ix, 3)) (hM : ML own ix y k) (hV : Cond.static y ∈ gw) (hk : Cond.code y cb nb ret ∈ gw) (hCt : Ct (jLa X) (jDa X) (jN0 X) lev' mc' ms' y cb nb ret As tt mi mr (pI r tt1 mi1 mr1)) (hlev : lev' < lev) (hnb : nb ≤ 11) (hAs : As.length = k) (hce : ce + mc' ≤ mc) (hsl : sl + ms' ≤ ms) (hlv : lv.length = n) (hst : (st.map fun v => v.category).sum ≤ 8) (kk : J X tt1 mi1 mr1 (ce + mc') (sl + ms') (pc + 3) lv (.int r :: st)) : J X tt mi mr ce sl pc lv (As.reverse ++ st) := j_callS C As hd hM hV hk hCt hlev hnb hAs hce hsl hlv hst (fun v t i m h => by obtain ⟨rfl, rfl, rfl, rfl⟩ := h; exact kk)
theorem j_callVr (C : jok X cc own n lev mc ms) {ix lev' mc' ms' nb k b c : Nat} {y : MethodName} {cb : ByteArray} {ret : Option FieldType} {q : Option Nat} (As : List Value) {st : List Value} (hd : decode cc pc = .ok (.invokevirtual ix, 3)) (hM : ML own ix y k) (hV : MV y) (hk : Cond.code y cb nb ret ∈ gw) (hc : ∃ T N, classes[c]? = some (y.cls, T, N)) (hb0 : tt b = some (.inl c)) (hCt : Ct (jLa X) (jDa X) (jN0 X) lev' mc' ms' y cb nb ret (va_rf (some b) :: As) tt mi mr (pR q tt1 mi1 mr1)) (hlev : lev' < lev) (hnb : nb ≤ 11) (hAs : As.length = k) (hce : ce + mc' ≤ mc) (hsl : sl + ms' ≤ ms) (hlv : lv.length = n) (hst : (st.map fun v => v.category).sum ≤ 8) (kk : J X tt1 mi1 mr1 (ce + mc') (sl + ms') (pc + 3) lv (va_rf q :: st)) : J X tt mi mr ce sl pc lv (As.reverse ++ va_rf (some b) :: st) := j_callV C As hd hM hV hk hc hb0 hCt hlev hnb hAs hce hsl hlv hst (fun v t i m h => by obtain ⟨rfl, rfl, rfl, rfl⟩ := h; exact kk)
theorem j_callSr (C : jok X cc own n lev mc ms) {ix lev' mc' ms' nb k : Nat} {y : MethodName} {cb : ByteArray} {ret : Option FieldType} {q : Option Nat} (As : List Value) {st : List Value} (hd : decode cc pc = .ok (.invokestatic ix, 3)) (hM : ML own ix y k) (hV : Cond.static y ∈ gw) (hk : Cond.code y cb nb ret ∈ gw) (hCt : Ct (jLa X) (jDa X) (jN0 X) lev' mc' ms' y cb nb ret As tt mi mr (pR q tt1 mi1 mr1)) (hlev : lev' < lev) (hnb : nb ≤ 11) (hAs : As.length = k) (hce : ce + mc' ≤ mc) (hsl : sl + ms' ≤ ms) (hlv : lv.length = n) (hst : (st.map fun v => v.category).sum ≤ 8) (kk : J X tt1 mi1 mr1 (ce + mc') (sl + ms') (pc + 3) lv (va_rf q :: st)) : J X tt mi mr ce sl pc lv (As.reverse ++ st) := j_callS C As hd hM hV hk hCt hlev hnb hAs hce hsl hlv hst (fun v t i m h => by obtain ⟨rfl, rfl, rfl, rfl⟩ := h; exact kk)
theorem j_callVv (C : jok X cc own n lev mc ms) {ix lev' mc' ms' nb k b c : Nat} {y : MethodName} {cb : ByteArray} {ret : Option FieldType} (As : List Value) {st : List Value} (hd : decode cc pc = .ok (.invokevirtual ix, 3)) (hM : ML own ix y k) (hV : MV y) (hk : Cond.code y cb nb ret ∈ gw) (hc : ∃ T N, classes[c]? = some (y.cls, T, N)) (hb0 : tt b = some (.inl c)) (hCt : Ct (jLa X) (jDa X) (jN0 X) lev' mc' ms' y cb nb ret (va_rf (some b) :: As) tt mi mr (pV tt1 mi1 mr1)) (hlev : lev' < lev) (hnb : nb ≤ 11) (hAs : As.length = k) (hce : ce + mc' ≤ mc) (hsl : sl + ms' ≤ ms) (hlv : lv.length = n) (hst : (st.map fun v => v.category).sum ≤ 8) (kk : J X tt1 mi1 mr1 (ce + mc') (sl + ms') (pc + 3) lv (st)) : J X tt mi mr ce sl pc lv (As.reverse ++ va_rf (some b) :: st) := j_callV C As hd hM hV hk hc hb0 hCt hlev hnb hAs hce hsl hlv hst (fun v t i m h => by obtain ⟨rfl, rfl, rfl, rfl⟩ := h; exact kk)
theorem j_callSv (C : jok X cc own n lev mc ms) {ix lev' mc' ms' nb k : Nat} {y : MethodName} {cb : ByteArray} {ret : Option FieldType} (As : List Value) {st : List Value} (hd : decode cc pc = .ok (.invokestatic ix, 3)) (hM : ML own ix y k) (hV : Cond.static y ∈ gw) (hk : Cond.code y cb nb ret ∈ gw) (hCt : Ct (jLa X) (jDa X) (jN0 X) lev' mc' ms' y cb nb ret As tt mi mr (pV tt1 mi1 mr1)) (hlev : lev' < lev) (hnb : nb ≤ 11) (hAs : As.length = k) (hce : ce + mc' ≤ mc) (hsl : sl + ms' ≤ ms) (hlv : lv.length = n) (hst : (st.map fun v => v.category).sum ≤ 8) (kk : J X tt1 mi1 mr1 (ce + mc') (sl + ms') (pc + 3) lv (st)) : J X tt mi mr ce sl pc lv (As.reverse ++ st) := j_callS C As hd hM hV hk hCt hlev hnb hAs hce hsl hlv hst (fun v t i m h => by obtain ⟨rfl, rfl, rfl, rfl⟩ := h; exact kk)
theorem j_callIv (C : jok X cc own n lev mc ms) {ix lev' mc' ms' nb k b : Nat} {y : MethodName} {cb : ByteArray} (As : List Value) {st : List Value} (hd : decode cc pc = .ok (.invokespecial ix, 3)) (hM : ML own ix y k) (hV : Cond.instanceMethod y ∈ gw) (hy : y.name = "<init>") (hk : Cond.code y cb nb none ∈ gw) (hCt : Ct (jLa X) (jDa X) (jN0 X) lev' mc' ms' y cb nb none (va_rf (some b) :: As) tt mi mr (pV tt1 mi1 mr1)) (hlev : lev' < lev) (hnb : nb ≤ 11) (hAs : As.length = k) (hce : ce + mc' ≤ mc) (hsl : sl + ms' ≤ ms) (hlv : lv.length = n) (hst : (st.map fun v => v.category).sum ≤ 8) (kk : J X tt1 mi1 mr1 (ce + mc') (sl + ms') (pc + 3) lv (st)) : J X tt mi mr ce sl pc lv (As.reverse ++ va_rf (some b) :: st) := j_callI C As hd hM hV hy hk hCt hlev hnb hAs hce hsl hlv hst (fun v t i m h => by obtain ⟨rfl, rfl, rfl, rfl⟩ := h; exact kk)
theorem j_callINv (C : jok X cc own n lev mc ms) {ix lev' mc' ms' nb k b : Nat} {y : MethodName} {cb : ByteArray} (As : List Value) {st : List Value} (hd : decode cc pc = .ok (.invokespecial ix, 3)) (hM : Cond.methodLinkNest own ix y "OrderDesk" ∈ tables_1) (hB : MB y k) (hV : Cond.instanceMethod y ∈ gw) (hy : y.name = "<init>") (hk : Cond.code y cb nb none ∈ gw) (hCt : Ct (jLa X) (jDa X) (jN0 X) lev' mc' ms' y cb nb none (va_rf (some b) :: As) tt mi mr (pV tt1 mi1 mr1)) (hlev : lev' < lev) (hnb : nb ≤ 11) (hAs : As.length = k) (hce : ce + mc' ≤ mc) (hsl : sl + ms' ≤ ms) (hlv : lv.length = n) (hst : (st.map fun v => v.category).sum ≤ 8) (kk : J X tt1 mi1 mr1 (ce + mc') (sl + ms') (pc + 3) lv (st)) : J X tt mi mr ce sl pc lv (As.reverse ++ va_rf (some b) :: st) := j_callIN C As hd hM hB hV hy hk hCt hlev hnb hAs hce hsl hlv hst (fun v t i m h => by obtain ⟨rfl, rfl, rfl, rfl⟩ := h; exact kk)
/-- a reference field is read of which it is known what it holds, null or not -/
theorem j_getk (C : jok X cc own n lev mc ms) {ix k a c : Nat} {r : Option Nat} {q : Nat ⊕ (Nat × Nat)} (hd : decode cc pc = .ok (.getfield ix, 3)) (hf : FL own ix c k) (hc : clOK c) (hk : kt (.inl c) k = some q) (ha : tt a = some (.inl c)) (hv : (flds c (mi a) (mr a))[k]? = some (va_rf (mr a k))) (he : mr a k = r) (kk : (∀ b, r = some b → tt b = some q) → J X tt mi mr ce sl (pc + 3) lv (va_rf r :: st)) : J X tt mi mr ce sl pc lv (va_rf (some a) :: st) :=
  j_get C hd hf hc ha hv (fun hT => by rw [he]; exact kk (fun b hb => hT a _ k q b ha hk (he.trans hb)))
theorem j_ifnull_n (C : jok X cc own n lev mc ms) {off : Int} {tgt : Nat} (hd : decode cc pc = .ok (.ifnull off, 3)) (ht : (pc : Int) + off = (tgt : Int)) (kk : J X tt mi mr ce sl tgt lv st) : J X tt mi mr ce sl pc lv (va_rf none :: st) := j_ifnull C hd ht (fun _ => kk) (fun b h => by cases h)
theorem j_ifnull_s (C : jok X cc own n lev mc ms) {b : Nat} {off : Int} {tgt : Nat} (hd : decode cc pc = .ok (.ifnull off, 3)) (ht : (pc : Int) + off = (tgt : Int)) (kk : J X tt mi mr ce sl (pc + 3) lv st) : J X tt mi mr ce sl pc lv (va_rf (some b) :: st) := j_ifnull C hd ht (fun h => by cases h) (fun b h => kk)
theorem j_ifnonnull_n (C : jok X cc own n lev mc ms) {off : Int} {tgt : Nat} (hd : decode cc pc = .ok (.ifnonnull off, 3)) (ht : (pc : Int) + off = (tgt : Int)) (kk : J X tt mi mr ce sl (pc + 3) lv st) : J X tt mi mr ce sl pc lv (va_rf none :: st) := j_ifnonnull C hd ht (fun b h => by cases h) (fun _ => kk)
theorem j_ifnonnull_s (C : jok X cc own n lev mc ms) {b : Nat} {off : Int} {tgt : Nat} (hd : decode cc pc = .ok (.ifnonnull off, 3)) (ht : (pc : Int) + off = (tgt : Int)) (kk : J X tt mi mr ce sl tgt lv st) : J X tt mi mr ce sl pc lv (va_rf (some b) :: st) := j_ifnonnull C hd ht (fun b h => kk) (fun h => by cases h)
/-- null is stored into an array of references -/
theorem j_aastN (C : jok X cc own n lev mc ms) {a N t : Nat} {i : Int32} (j : Nat) (hd : decode cc pc = .ok (.aastore, 1)) (ha : tt a = some (.inr (t, N))) (ht : t < 3) (hi : i = nI j) (hj : j < N) (hN : N < 2 ^ 31) (kk : ∀ mr' : jR, mr' = up2 mr a j none → J X tt mi mr' ce sl (pc + 1) lv st) : J X tt mi mr ce sl pc lv (va_rf none :: .int i :: va_rf (some a) :: st) := by
  obtain ⟨p, l, e, R, s, m, args, below, meth, c0, Q, D, N0⟩ := X
  obtain ⟨hx, hb, hown, hts, hml, hlk, hK, hfr, hlo, hce, hsl, hN0⟩ := C
  intro H locs ls hH hS hl
  subst hi
  have hA : jA N0 a := (hH.2.1 a _ ha).1
  have hcell : H[a]? = some (vp_cell (D.2 t) (N, .inr (.inr (.inr (.inr (mr a)))))) := by
    have h1 : H[a]? = some (vp_cell (D.2 t) (N, arrE t (mi a) (mr a))) := (hH.2.1 a _ ha).2
    rw [arrE_ref ht] at h1
    exact h1
  refine va_WaastN (C := refC t) hx hb hcell ((hK.1.2 t _ (tys_ref ht D)).1 N (fun j => va_rf (mr a j))) (fun h => by cases h) (by show ¬ (_ ∨ (arrV _ _ _).slots.size ≤ _); rw [arrV_size]; exact vp_in_nI hj hN) rfl rfl hd fun H1 e1 z oq => ?_
  refine kk _ rfl H1 _ ls (hH.put ha z oq (fun _ _ => rfl) (fun b hb => up2_off _ _ _ _ hb) ?_ ?_) (hS.put z oq hA) hl
  · show H1[a]? = some (vp_cell (D.2 t) (N, arrE t (mi a) (up2 mr a j none a)))
    rw [e1, arrE_ref ht, vp_cell_q, vp_cell_q, arrV_store, up2_row, nI_clamp (Nat.lt_trans hj hN)]
    congr 2
    funext q
    by_cases hq : q = j
    · subst hq
      simp [updV, va_up, va_rf]
    · simp [updV, va_up, hq]
  · intro k q' b hk hb
    rw [kt_ref ht] at hk
    cases hk
    rw [up2_ap] at hb
    by_cases e : k = j
    · rw [if_pos ⟨rfl, e⟩] at hb
      cases hb
    · rw [if_neg (fun z => e z.2)] at hb
      exact hH.2.2 a _ k _ b ha (kt_ref ht N k) hb
theorem j_aastq (C : jok X cc own n lev mc ms) {a N t : Nat} {i : Int32} {r : Option Nat} (j : Nat) (hd : decode cc pc = .ok (.aastore, 1)) (ha : tt a = some (.inr (t, N))) (ht : t < 3) (hi : i = nI j) (hj : j < N) (hN : N < 2 ^ 31) (hv : ∀ b, r = some b → tt b = some (.inl t)) (kk : ∀ mr' : jR, mr' = up2 mr a j r → J X tt mi mr' ce sl (pc + 1) lv st) : J X tt mi mr ce sl pc lv (va_rf r :: .int i :: va_rf (some a) :: st) := by
  cases r with
  | none => exact j_aastN C j hd ha ht hi hj hN kk
  | some v => exact j_aast C j hd ha ht hi hj hN (hv v rfl) kk
end JC
def posF (x : Int32) : Bool := !decide (x < 0) && !decide (100000 ≤ x)
def prioF (x : Int32) : Bool := !decide (x < 1) && !decide (9 < x)
def itemF (x : Int32) : Bool := !decide (x < 0) && !decide (200 ≤ x)
def befF (p a q b : Int32) : Bool := decide (p < q) || (decide (p = q) && !decide (b ≤ a))
def chI (p : Int32) : Int32 := (p ^^^ (p >>> ((8 : Int32) &&& 31))) &&& 255
def chF (p : Int32) : Nat := (chI p).toNatClampNeg
theorem chF_ok (p : Int32) : chI p = nI (chF p) ∧ chF p < 256 := by
  obtain ⟨j, hj, e⟩ := pk_andE (p ^^^ (p >>> ((8 : Int32) &&& 31))) (m := 255) 8 rfl
  have e2 : chI p = nI j := e
  have e3 : chF p = j := by
    unfold chF
    rw [e2, nI_clamp (by omega)]
  rw [e3]
  exact ⟨e2, hj⟩
def numF (mi : jI) (r : Option Nat) : Int32 := match r with
  | none => -1
  | some a => mi a 0
def isIt (tt : jT) (a : Nat) : Prop := tt a = some (.inl 0)

set_option maxHeartbeats 4000000 in
set_option maxRecDepth 100000 in
theorem c_Desk_isPosition (l : Launch) (D : jD) (N0 : Nat) {tt : jT} {mi : jI} {mr : jR} (x : Int32) : Ct l D N0 0 0 0 y_Desk_isPosition b_Desk_isPosition 1 (some .boolean) [.int x] tt mi mr (pI (bI (posF x)) tt mi mr) := by
  refine Ct.of "OrderDesk" (by decide +kernel) rfl (by simp [cat_rf, cat_int]) (Nat.le_of_ble_eq_true rfl) (fun X hXl hXd hXn C E I hWT => ?_)
  subst hXl hXd hXn
  refine j_iload_n C d_Desk_isPosition_0 rfl ?_
  refine j_if_lt (tgt := 14) C d_Desk_isPosition_1 (by decide) (fun c1 => ?_) (fun c1 => ?_)
  · skip
    refine j_iconst (v := 0) C d_Desk_isPosition_14 (by decide) ?_
    refine j_iret C E rfl (by first | rfl | exact nar_bI _) d_Desk_isPosition_15 ?_
    exact ⟨by simp [posF, bI, *], rfl, rfl, rfl⟩
  · skip
    refine j_iload_n C d_Desk_isPosition_4 rfl ?_
    refine j_ldc C ct_Desk_18 d_Desk_isPosition_5 ?_
    refine j_icmp_ge (tgt := 14) C d_Desk_isPosition_7 (by decide) (fun c7 => ?_) (fun c7 => ?_)
    · skip
      refine j_iconst (v := 0) C d_Desk_isPosition_14 (by decide) ?_
      refine j_iret C E rfl (by first | rfl | exact nar_bI _) d_Desk_isPosition_15 ?_
      exact ⟨by simp [posF, bI, *], rfl, rfl, rfl⟩
    · skip
      refine j_iconst (v := 1) C d_Desk_isPosition_10 (by decide) ?_
      refine j_goto (tgt := 15) C d_Desk_isPosition_11 (by decide) ?_
      refine j_iret C E rfl (by first | rfl | exact nar_bI _) d_Desk_isPosition_15 ?_
      exact ⟨by simp [posF, bI, *], rfl, rfl, rfl⟩

set_option maxHeartbeats 4000000 in
set_option maxRecDepth 100000 in
theorem c_Desk_isPriority (l : Launch) (D : jD) (N0 : Nat) {tt : jT} {mi : jI} {mr : jR} (x : Int32) : Ct l D N0 0 0 0 y_Desk_isPriority b_Desk_isPriority 1 (some .boolean) [.int x] tt mi mr (pI (bI (prioF x)) tt mi mr) := by
  refine Ct.of "OrderDesk" (by decide +kernel) rfl (by simp [cat_rf, cat_int]) (Nat.le_of_ble_eq_true rfl) (fun X hXl hXd hXn C E I hWT => ?_)
  subst hXl hXd hXn
  refine j_iload_n C d_Desk_isPriority_0 rfl ?_
  refine j_iconst (v := 1) C d_Desk_isPriority_1 (by decide) ?_
  refine j_icmp_lt (tgt := 15) C d_Desk_isPriority_2 (by decide) (fun c2 => ?_) (fun c2 => ?_)
  · skip
    refine j_iconst (v := 0) C d_Desk_isPriority_15 (by decide) ?_
    refine j_iret C E rfl (by first | rfl | exact nar_bI _) d_Desk_isPriority_16 ?_
    exact ⟨by simp [prioF, bI, *], rfl, rfl, rfl⟩
  · skip
    refine j_iload_n C d_Desk_isPriority_5 rfl ?_
    refine j_bipush (v := 9) C d_Desk_isPriority_6 (by decide) ?_
    refine j_icmp_gt (tgt := 15) C d_Desk_isPriority_8 (by decide) (fun c8 => ?_) (fun c8 => ?_)
    · skip
      refine j_iconst (v := 0) C d_Desk_isPriority_15 (by decide) ?_
      refine j_iret C E rfl (by first | rfl | exact nar_bI _) d_Desk_isPriority_16 ?_
      exact ⟨by simp [prioF, bI, *], rfl, rfl, rfl⟩
    · skip
      refine j_iconst (v := 1) C d_Desk_isPriority_11 (by decide) ?_
      refine j_goto (tgt := 16) C d_Desk_isPriority_12 (by decide) ?_
      refine j_iret C E rfl (by first | rfl | exact nar_bI _) d_Desk_isPriority_16 ?_
      exact ⟨by simp [prioF, bI, *], rfl, rfl, rfl⟩

set_option maxHeartbeats 4000000 in
set_option maxRecDepth 100000 in
theorem c_Lines_chain (l : Launch) (D : jD) (N0 : Nat) {tt : jT} {mi : jI} {mr : jR} (x : Int32) : Ct l D N0 0 0 0 y_Lines_chain b_Lines_chain 1 (some .int) [.int x] tt mi mr (pI (chI x) tt mi mr) := by
  refine Ct.of "OrderDesk$Lines" (by decide +kernel) rfl (by simp [cat_rf, cat_int]) (Nat.le_of_ble_eq_true rfl) (fun X hXl hXd hXn C E I hWT => ?_)
  subst hXl hXd hXn
  refine j_iload_n C d_Lines_chain_0 rfl ?_
  refine j_iload_n C d_Lines_chain_1 rfl ?_
  refine j_bipush (v := 8) C d_Lines_chain_2 (by decide) ?_
  refine j_ishr C d_Lines_chain_4 ?_
  refine j_ixor C d_Lines_chain_5 ?_
  refine j_sipush (v := 255) C d_Lines_chain_6 (by decide) ?_
  refine j_iand C d_Lines_chain_9 ?_
  refine j_iret C E rfl rfl d_Lines_chain_10 ?_
  exact ⟨rfl, rfl, rfl, rfl⟩

set_option maxHeartbeats 4000000 in
set_option maxRecDepth 100000 in
theorem c_Item_isBefore (l : Launch) (D : jD) (N0 : Nat) {tt : jT} {mi : jI} {mr : jR} {a b : Nat} (ha : tt a = some (.inl 0)) (hb : tt b = some (.inl 0)) : Ct l D N0 0 0 0 y_Item_isBefore b_Item_isBefore 2 (some .boolean) [va_rf (some a), va_rf (some b)] tt mi mr (pI (bI (befF (mi a 3) (mi a 4) (mi b 3) (mi b 4))) tt mi mr) := by
  refine Ct.of "OrderDesk$Item" (by decide +kernel) rfl (by simp [cat_rf, cat_int]) (Nat.le_of_ble_eq_true rfl) (fun X hXl hXd hXn C E I hWT => ?_)
  subst hXl hXd hXn
  refine j_aload_n C d_Item_isBefore_0 rfl ?_
  refine j_geti C d_Item_isBefore_1 fl_Item_24 cl_Item (by assumption) rfl ?_
  refine j_aload_n C d_Item_isBefore_4 rfl ?_
  refine j_geti C d_Item_isBefore_5 fl_Item_24 cl_Item (by assumption) rfl ?_
  refine j_icmp_lt (tgt := 33) C d_Item_isBefore_8 (by decide) (fun c8 => ?_) (fun c8 => ?_)
  · skip
    refine j_iconst (v := 1) C d_Item_isBefore_33 (by decide) ?_
    refine j_goto (tgt := 38) C d_Item_isBefore_34 (by decide) ?_
    refine j_iret C E rfl (by first | rfl | exact nar_bI _) d_Item_isBefore_38 ?_
    exact ⟨by simp [befF, bI, *], rfl, rfl, rfl⟩
  · skip
    refine j_aload_n C d_Item_isBefore_11 rfl ?_
    refine j_geti C d_Item_isBefore_12 fl_Item_24 cl_Item (by assumption) rfl ?_
    refine j_aload_n C d_Item_isBefore_15 rfl ?_
    refine j_geti C d_Item_isBefore_16 fl_Item_24 cl_Item (by assumption) rfl ?_
    refine j_icmp_ne (tgt := 37) C d_Item_isBefore_19 (by decide) (fun c19 => ?_) (fun c19 => ?_)
    · skip
      refine j_iconst (v := 0) C d_Item_isBefore_37 (by decide) ?_
      refine j_iret C E rfl (by first | rfl | exact nar_bI _) d_Item_isBefore_38 ?_
      exact ⟨by simp [befF, bI, *], rfl, rfl, rfl⟩
    · skip
      refine j_aload_n C d_Item_isBefore_22 rfl ?_
      refine j_geti C d_Item_isBefore_23 fl_Item_27 cl_Item (by assumption) rfl ?_
      refine j_aload_n C d_Item_isBefore_26 rfl ?_
      refine j_geti C d_Item_isBefore_27 fl_Item_27 cl_Item (by assumption) rfl ?_
      refine j_icmp_ge (tgt := 37) C d_Item_isBefore_30 (by decide) (fun c30 => ?_) (fun c30 => ?_)
      · skip
        refine j_iconst (v := 0) C d_Item_isBefore_37 (by decide) ?_
        refine j_iret C E rfl (by first | rfl | exact nar_bI _) d_Item_isBefore_38 ?_
        exact ⟨by simp [befF, bI, *], rfl, rfl, rfl⟩
      · skip
        refine j_iconst (v := 1) C d_Item_isBefore_33 (by decide) ?_
        refine j_goto (tgt := 38) C d_Item_isBefore_34 (by decide) ?_
        refine j_iret C E rfl (by first | rfl | exact nar_bI _) d_Item_isBefore_38 ?_
        exact ⟨by simp [befF, bI, *], rfl, rfl, rfl⟩

set_option maxHeartbeats 4000000 in
set_option maxRecDepth 100000 in
theorem c_Orders_isItem (l : Launch) (D : jD) (N0 : Nat) {tt : jT} {mi : jI} {mr : jR} {a ia : Nat} (ha : tt a = some (.inl 4)) (hia : mr a 0 = some ia) (x : Int32) : Ct l D N0 0 0 0 y_Orders_isItem b_Orders_isItem 2 (some .boolean) [va_rf (some a), .int x] tt mi mr (pI (bI (itemF x)) tt mi mr) := by
  refine Ct.of "OrderDesk$Orders" (by decide +kernel) rfl (by simp [cat_rf, cat_int]) (Nat.le_of_ble_eq_true rfl) (fun X hXl hXd hXn C E I hWT => ?_)
  subst hXl hXd hXn
  refine j_iload_n C d_Orders_isItem_0 rfl ?_
  refine j_if_lt (tgt := 17) C d_Orders_isItem_1 (by decide) (fun c1 => ?_) (fun c1 => ?_)
  · skip
    refine j_iconst (v := 0) C d_Orders_isItem_17 (by decide) ?_
    refine j_iret C E rfl (by first | rfl | exact nar_bI _) d_Orders_isItem_18 ?_
    refine ⟨?_, rfl, rfl, rfl⟩
    first | (simp [itemF, bI, c1]; done) | (rw [show nI 200 = 200 from rfl] at c10; simp [itemF, bI, c1, c10])
  · skip
    refine j_iload_n C d_Orders_isItem_4 rfl ?_
    refine j_aload_n C d_Orders_isItem_5 rfl ?_
    refine j_gets C d_Orders_isItem_6 fl_Orders_9 cl_Orders rfl (by assumption) rfl hia (fun t6 => ?_)
    refine j_alen C d_Orders_isItem_9 (by assumption) (by decide) ?_
    refine j_icmp_ge (tgt := 17) C d_Orders_isItem_10 (by decide) (fun c10 => ?_) (fun c10 => ?_)
    · skip
      refine j_iconst (v := 0) C d_Orders_isItem_17 (by decide) ?_
      refine j_iret C E rfl (by first | rfl | exact nar_bI _) d_Orders_isItem_18 ?_
      refine ⟨?_, rfl, rfl, rfl⟩
      first | (simp [itemF, bI, c1]; done) | (rw [show nI 200 = 200 from rfl] at c10; simp [itemF, bI, c1, c10])
    · skip
      refine j_iconst (v := 1) C d_Orders_isItem_13 (by decide) ?_
      refine j_goto (tgt := 18) C d_Orders_isItem_14 (by decide) ?_
      refine j_iret C E rfl (by first | rfl | exact nar_bI _) d_Orders_isItem_18 ?_
      refine ⟨?_, rfl, rfl, rfl⟩
      first | (simp [itemF, bI, c1]; done) | (rw [show nI 200 = 200 from rfl] at c10; simp [itemF, bI, c1, c10])

set_option maxHeartbeats 4000000 in
set_option maxRecDepth 100000 in
theorem c_Orders_numberI (l : Launch) (D : jD) (N0 : Nat) {tt : jT} {mi : jI} {mr : jR} (r : Option Nat) (hr : ∀ a, r = some a → tt a = some (.inl 0)) : Ct l D N0 0 0 0 y_Orders_numberI b_Orders_numberI 1 (some .int) [va_rf r] tt mi mr (pI (numF mi r) tt mi mr) := by
  refine Ct.of "OrderDesk$Orders" (by decide +kernel) rfl (by simp [cat_rf, cat_int]) (Nat.le_of_ble_eq_true rfl) (fun X hXl hXd hXn C E I hWT => ?_)
  subst hXl hXd hXn
  refine j_aload_n C d_Orders_numberI_0 rfl ?_
  refine j_ifnonnull (tgt := 8) C d_Orders_numberI_1 (by decide) (fun b1 e1 => ?_) (fun e1 => ?_)
  · first | subst e1 | skip
    have hr := hr _ rfl
    refine j_aload_n C d_Orders_numberI_8 rfl ?_
    refine j_geti C d_Orders_numberI_9 fl_Orders_107 cl_Item (by assumption) rfl ?_
    refine j_iret C E rfl rfl d_Orders_numberI_12 ?_
    exact ⟨rfl, rfl, rfl, rfl⟩
  · first | subst e1 | skip
    refine j_iconst (v := (-1)) C d_Orders_numberI_4 (by decide) ?_
    refine j_goto (tgt := 12) C d_Orders_numberI_5 (by decide) ?_
    refine j_iret C E rfl rfl d_Orders_numberI_12 ?_
    exact ⟨rfl, rfl, rfl, rfl⟩

set_option maxHeartbeats 4000000 in
set_option maxRecDepth 100000 in
theorem c_Orders_numberM (l : Launch) (D : jD) (N0 : Nat) {tt : jT} {mi : jI} {mr : jR} (r i : Option Nat) (hr : ∀ a, r = some a → tt a = some (.inl 1) ∧ ∃ j, mr a 0 = some j ∧ i = some j) (hn : r = none → i = none) : Ct l D N0 0 0 0 y_Orders_numberM b_Orders_numberM 1 (some .int) [va_rf r] tt mi mr (pI (numF mi i) tt mi mr) := by
  refine Ct.of "OrderDesk$Orders" (by decide +kernel) rfl (by simp [cat_rf, cat_int]) (Nat.le_of_ble_eq_true rfl) (fun X hXl hXd hXn C E I hWT => ?_)
  subst hXl hXd hXn
  refine j_aload_n C d_Orders_numberM_0 rfl ?_
  refine j_ifnonnull (tgt := 8) C d_Orders_numberM_1 (by decide) (fun b1 e1 => ?_) (fun e1 => ?_)
  · first | subst e1 | skip
    obtain ⟨hr, j, hj, hi⟩ := hr _ rfl
    refine j_aload_n C d_Orders_numberM_8 rfl ?_
    refine j_gets C d_Orders_numberM_9 fl_Orders_110 cl_Member rfl (by assumption) rfl hj (fun t9 => ?_)
    refine j_geti C d_Orders_numberM_12 fl_Orders_107 cl_Item (by assumption) rfl ?_
    refine j_iret C E rfl rfl d_Orders_numberM_15 ?_
    exact ⟨by first | (rw [hn rfl]; rfl) | (rw [hi]; rfl), rfl, rfl, rfl⟩
  · first | subst e1 | skip
    refine j_iconst (v := (-1)) C d_Orders_numberM_4 (by decide) ?_
    refine j_goto (tgt := 15) C d_Orders_numberM_5 (by decide) ?_
    refine j_iret C E rfl rfl d_Orders_numberM_15 ?_
    exact ⟨by first | (rw [hn rfl]; rfl) | (rw [hi]; rfl), rfl, rfl, rfl⟩

set_option maxHeartbeats 4000000 in
set_option maxRecDepth 100000 in
theorem c_Lines_give (l : Launch) (D : jD) (N0 : Nat) {tt : jT} {mi : jI} {mr : jR} {a b : Nat} (ha : tt a = some (.inl 3)) (hb : tt b = some (.inl 2)) : Ct l D N0 0 0 0 y_Lines_give b_Lines_give 2 none [va_rf (some a), va_rf (some b)] tt mi mr (pV tt mi (up2 (up2 mr b 4 (mr a 1)) a 1 (some b))) := by
  refine Ct.of "OrderDesk$Lines" (by decide +kernel) rfl (by simp [cat_rf, cat_int]) (Nat.le_of_ble_eq_true rfl) (fun X hXl hXd hXn C E I hWT => ?_)
  subst hXl hXd hXn
  refine j_aload_n C d_Lines_give_0 rfl ?_
  refine j_aload_n C d_Lines_give_1 rfl ?_
  refine j_getr C d_Lines_give_2 fl_Lines_20 cl_Lines rfl (by assumption) rfl (fun r2 h2 t2 => ?_)
  refine j_putr C d_Lines_give_5 fl_Lines_24 cl_Line (fun C T N h => by cases h; exact Or.inl rfl) rfl (by assumption) (by first | assumption | (intro b hb; cases hb; assumption) | (intro b hb; cases hb)) (fun f g => ⟨rfl, Nat.le_of_ble_eq_true rfl⟩) rfl (fun mr5 hr5 => ?_)
  refine j_aload_n C d_Lines_give_8 rfl ?_
  refine j_aload_n C d_Lines_give_9 rfl ?_
  refine j_putr C d_Lines_give_10 fl_Lines_20 cl_Lines (fun C T N h => by cases h; exact Or.inl rfl) rfl (by assumption) (by first | assumption | (intro b hb; cases hb; assumption) | (intro b hb; cases hb)) (fun f g => ⟨rfl, Nat.le_of_ble_eq_true rfl⟩) rfl (fun mr10 hr10 => ?_)
  refine j_vret C E d_Lines_give_13 ?_
  subst hr10 hr5 h2
  exact ⟨rfl, rfl, rfl, rfl⟩

set_option maxHeartbeats 4000000 in
set_option maxRecDepth 100000 in
theorem c_Model_isItem (l : Launch) (D : jD) (N0 : Nat) {tt : jT} {mi : jI} {mr : jR} (x : Int32) : Ct l D N0 0 0 0 y_Model_isItem b_Model_isItem 1 (some .boolean) [.int x] tt mi mr (pI (bI (itemF x)) tt mi mr) := by
  refine Ct.of "OrderDeskModel" (by decide +kernel) rfl (by simp [cat_rf, cat_int]) (Nat.le_of_ble_eq_true rfl) (fun X hXl hXd hXn C E I hWT => ?_)
  subst hXl hXd hXn
  refine j_iload_n C d_Model_isItem_0 rfl ?_
  refine j_if_lt (tgt := 15) C d_Model_isItem_1 (by decide) (fun c1 => ?_) (fun c1 => ?_)
  · skip
    refine j_iconst (v := 0) C d_Model_isItem_15 (by decide) ?_
    refine j_iret C E rfl (by first | rfl | exact nar_bI _) d_Model_isItem_16 ?_
    exact ⟨by simp [itemF, bI, *], rfl, rfl, rfl⟩
  · skip
    refine j_iload_n C d_Model_isItem_4 rfl ?_
    refine j_sipush (v := 200) C d_Model_isItem_5 (by decide) ?_
    refine j_icmp_ge (tgt := 15) C d_Model_isItem_8 (by decide) (fun c8 => ?_) (fun c8 => ?_)
    · skip
      refine j_iconst (v := 0) C d_Model_isItem_15 (by decide) ?_
      refine j_iret C E rfl (by first | rfl | exact nar_bI _) d_Model_isItem_16 ?_
      exact ⟨by simp [itemF, bI, *], rfl, rfl, rfl⟩
    · skip
      refine j_iconst (v := 1) C d_Model_isItem_11 (by decide) ?_
      refine j_goto (tgt := 16) C d_Model_isItem_12 (by decide) ?_
      refine j_iret C E rfl (by first | rfl | exact nar_bI _) d_Model_isItem_16 ?_
      exact ⟨by simp [itemF, bI, *], rfl, rfl, rfl⟩

def posG (x : Int32) : Bool := !decide (x < 0) && !decide (99999 < x)
set_option maxHeartbeats 4000000 in
set_option maxRecDepth 100000 in
theorem c_Model_isPosition (l : Launch) (D : jD) (N0 : Nat) {tt : jT} {mi : jI} {mr : jR} (x : Int32) : Ct l D N0 0 0 0 y_Model_isPosition b_Model_isPosition 1 (some .boolean) [.int x] tt mi mr (pI (bI (posG x)) tt mi mr) := by
  refine Ct.of "OrderDeskModel" (by decide +kernel) rfl (by simp [cat_rf, cat_int]) (Nat.le_of_ble_eq_true rfl) (fun X hXl hXd hXn C E I hWT => ?_)
  subst hXl hXd hXn
  refine j_iload_n C d_Model_isPosition_0 rfl ?_
  refine j_if_lt (tgt := 14) C d_Model_isPosition_1 (by decide) (fun c1 => ?_) (fun c1 => ?_)
  · skip
    refine j_iconst (v := 0) C d_Model_isPosition_14 (by decide) ?_
    refine j_iret C E rfl (by first | rfl | exact nar_bI _) d_Model_isPosition_15 ?_
    exact ⟨by simp [posG, bI, *], rfl, rfl, rfl⟩
  · skip
    refine j_iload_n C d_Model_isPosition_4 rfl ?_
    refine j_ldc C ct_Model_30 d_Model_isPosition_5 ?_
    refine j_icmp_gt (tgt := 14) C d_Model_isPosition_7 (by decide) (fun c7 => ?_) (fun c7 => ?_)
    · skip
      refine j_iconst (v := 0) C d_Model_isPosition_14 (by decide) ?_
      refine j_iret C E rfl (by first | rfl | exact nar_bI _) d_Model_isPosition_15 ?_
      exact ⟨by simp [posG, bI, *], rfl, rfl, rfl⟩
    · skip
      refine j_iconst (v := 1) C d_Model_isPosition_10 (by decide) ?_
      refine j_goto (tgt := 15) C d_Model_isPosition_11 (by decide) ?_
      refine j_iret C E rfl (by first | rfl | exact nar_bI _) d_Model_isPosition_15 ?_
      exact ⟨by simp [posG, bI, *], rfl, rfl, rfl⟩

set_option maxHeartbeats 4000000 in
set_option maxRecDepth 100000 in
theorem c_Model_isPriority (l : Launch) (D : jD) (N0 : Nat) {tt : jT} {mi : jI} {mr : jR} (x : Int32) : Ct l D N0 0 0 0 y_Model_isPriority b_Model_isPriority 1 (some .boolean) [.int x] tt mi mr (pI (bI (prioF x)) tt mi mr) := by
  refine Ct.of "OrderDeskModel" (by decide +kernel) rfl (by simp [cat_rf, cat_int]) (Nat.le_of_ble_eq_true rfl) (fun X hXl hXd hXn C E I hWT => ?_)
  subst hXl hXd hXn
  refine j_iload_n C d_Model_isPriority_0 rfl ?_
  refine j_iconst (v := 1) C d_Model_isPriority_1 (by decide) ?_
  refine j_icmp_lt (tgt := 15) C d_Model_isPriority_2 (by decide) (fun c2 => ?_) (fun c2 => ?_)
  · skip
    refine j_iconst (v := 0) C d_Model_isPriority_15 (by decide) ?_
    refine j_iret C E rfl (by first | rfl | exact nar_bI _) d_Model_isPriority_16 ?_
    exact ⟨by simp [prioF, bI, *], rfl, rfl, rfl⟩
  · skip
    refine j_iload_n C d_Model_isPriority_5 rfl ?_
    refine j_bipush (v := 9) C d_Model_isPriority_6 (by decide) ?_
    refine j_icmp_gt (tgt := 15) C d_Model_isPriority_8 (by decide) (fun c8 => ?_) (fun c8 => ?_)
    · skip
      refine j_iconst (v := 0) C d_Model_isPriority_15 (by decide) ?_
      refine j_iret C E rfl (by first | rfl | exact nar_bI _) d_Model_isPriority_16 ?_
      exact ⟨by simp [prioF, bI, *], rfl, rfl, rfl⟩
    · skip
      refine j_iconst (v := 1) C d_Model_isPriority_11 (by decide) ?_
      refine j_goto (tgt := 16) C d_Model_isPriority_12 (by decide) ?_
      refine j_iret C E rfl (by first | rfl | exact nar_bI _) d_Model_isPriority_16 ?_
      exact ⟨by simp [prioF, bI, *], rfl, rfl, rfl⟩
end
section
/-! Item, Line, Lines, Orders: the methods that walk and write, their contracts by formulas -/
theorem drop_take_cons {ms : List Nat} {k cnt m : Nat} (hk : k < cnt) (hm : ms[k]? = some m) : (ms.take cnt).drop k = m :: (ms.take cnt).drop (k + 1) := by
  have hl : k < (ms.take cnt).length := by
    have := (List.getElem?_eq_some_iff.mp hm).1
    rw [List.length_take]
    omega
  rw [List.drop_eq_getElem_cons hl]
  congr 1
  rw [List.getElem_take]
  exact (List.getElem?_eq_some_iff.mp hm).2
theorem getE {ms : List Nat} {k : Nat} (h : k < ms.length) : ∃ m, ms[k]? = some m := ⟨ms[k], List.getElem?_eq_getElem h⟩
/-- what an item's row of members is: the array M, of which ms are the places -/
def rowM (mr : jR) (M : Nat) (ms : List Nat) : Prop := ms.length = 8 ∧ ∀ k, k < 8 → mr M k = ms[k]?

set_option maxHeartbeats 4000000 in
set_option maxRecDepth 100000 in
/-- Item.of(p): the first member of those that count whose position is p -/
theorem c_Item_of (l : Launch) (D : jD) (N0 : Nat) {tt : jT} {mi : jI} {mr : jR} {a M cnt : Nat} {ms : List Nat} (ha : tt a = some (.inl 0)) (hsz : mi a 2 = nI cnt) (hc : cnt ≤ 8) (hM : mr a 1 = some M) (hms : rowM mr M ms) (p : Int32) : Ct l D N0 0 0 0 y_Item_of b_Item_of 3 (some (.object "OrderDesk$Member")) [va_rf (some a), .int p] tt mi mr (pR ((ms.take cnt).find? (fun m => decide (mi m 1 = p))) tt mi mr) := by
  refine Ct.of "OrderDesk$Item" (by decide +kernel) rfl (by simp [cat_rf, cat_int]) (Nat.le_of_ble_eq_true rfl) (fun X hXl hXd hXn C E I hWT => ?_)
  subst hXl hXd hXn
  refine j_iconst (v := 0) C d_Item_of_0 (by decide) ?_
  refine j_istore_n C d_Item_of_1 (Nat.le_of_ble_eq_true rfl) ?_
  have loop : ∀ (n k : Nat), k ≤ cnt → cnt < k + n → (ms.take cnt).find? (fun m => decide (mi m 1 = p)) = ((ms.take cnt).drop k).find? (fun m => decide (mi m 1 = p)) → J X tt mi mr 0 0 2 [some (va_rf (some a)), some (.int p), some (.int (nI k))] [] := by
    intro n
    induction n with
    | zero => intro k h1 h2; exact absurd h2 (by omega)
    | succ n ih =>
      intro k hk hn hinv
      refine j_iload_n C d_Item_of_2 rfl ?_
      refine j_aload_n C d_Item_of_3 rfl ?_
      refine j_geti C d_Item_of_4 fl_Item_30 cl_Item (by assumption) rfl ?_
      refine j_icmp_ge (tgt := 36) C d_Item_of_7 (by decide) (fun c7 => ?_) (fun c7 => ?_)
      · skip
        rw [hsz, nI_leI (by omega) (by omega)] at c7
        rw [List.drop_eq_nil_of_le (by rw [List.length_take]; omega)] at hinv
        refine j_null C d_Item_of_36 ?_
        refine j_aret C E d_Item_of_37 ?_
        exact ⟨by rw [hinv]; rfl, rfl, rfl, rfl⟩
      · skip
        rw [hsz, nI_leI (by omega) (by omega)] at c7
        obtain ⟨m, hm⟩ := getE (ms := ms) (k := k) (by rw [hms.1]; omega)
        rw [drop_take_cons (by omega) hm] at hinv
        refine j_aload_n C d_Item_of_10 rfl ?_
        refine j_gets C d_Item_of_11 fl_Item_11 cl_Item rfl (by assumption) rfl hM (fun t11 => ?_)
        refine j_iload_n C d_Item_of_14 rfl ?_
        refine j_aalds C k d_Item_of_15 (by assumption) (by decide) rfl (by omega) (by decide) ((hms.2 k (by omega)).trans hm) (fun t15 => ?_)
        refine j_geti C d_Item_of_16 fl_Item_33 cl_Member (by assumption) rfl ?_
        refine j_iload_n C d_Item_of_19 rfl ?_
        refine j_icmp_ne (tgt := 30) C d_Item_of_20 (by decide) (fun c20 => ?_) (fun c20 => ?_)
        · skip
          rw [List.find?_cons_of_neg (by simpa using c20)] at hinv
          refine j_iinc C d_Item_of_30 rfl (nI_1 k) ?_
          refine j_goto (tgt := 2) C d_Item_of_33 (by decide) ?_
          exact ih (k + 1) (by omega) (by omega) hinv
        · skip
          rw [List.find?_cons_of_pos (by simpa using c20)] at hinv
          refine j_aload_n C d_Item_of_23 rfl ?_
          refine j_gets C d_Item_of_24 fl_Item_11 cl_Item rfl (by assumption) rfl hM (fun t24 => ?_)
          refine j_iload_n C d_Item_of_27 rfl ?_
          refine j_aalds C k d_Item_of_28 (by assumption) (by decide) rfl (by omega) (by decide) ((hms.2 k (by omega)).trans hm) (fun t28 => ?_)
          refine j_aret C E d_Item_of_29 ?_
          exact ⟨by rw [hinv], rfl, rfl, rfl⟩
  exact loop (cnt + 1) 0 (by omega) (by omega) rfl

def takeP (tt : jT) (mi : jI) (mr : jR) (a cnt : Nat) (ms : List Nat) (p : Int32) : jPost := fun v tt' mi' mr' => tt' = tt ∧ mr' = mr ∧
  ((v = some (.int 0) ∧ mi' = mi ∧ (cnt = 8 ∨ (ms.take cnt).find? (fun m => decide (mi m 1 = p)) ≠ none)) ∨
   (v = some (.int 1) ∧ cnt < 8 ∧ (ms.take cnt).find? (fun m => decide (mi m 1 = p)) = none ∧ ∃ m, ms[cnt]? = some m ∧ mi' = up2 (up2 mi m 1 p) a 2 (nI (cnt + 1))))
set_option maxHeartbeats 4000000 in
set_option maxRecDepth 100000 in
/-- Item.take(p) -/
theorem c_Item_take (l : Launch) (D : jD) (N0 : Nat) {tt : jT} {mi : jI} {mr : jR} {a M cnt : Nat} {ms : List Nat} (ha : tt a = some (.inl 0)) (hsz : mi a 2 = nI cnt) (hc : cnt ≤ 8) (hM : mr a 1 = some M) (hms : rowM mr M ms) (p : Int32) : Ct l D N0 1 0 0 y_Item_take b_Item_take 2 (some .boolean) [va_rf (some a), .int p] tt mi mr (takeP tt mi mr a cnt ms p) := by
  refine Ct.of "OrderDesk$Item" (by decide +kernel) rfl (by simp [cat_rf, cat_int]) (Nat.le_of_ble_eq_true rfl) (fun X hXl hXd hXn C E I hWT => ?_)
  subst hXl hXd hXn
  refine j_aload_n C d_Item_take_0 rfl ?_
  refine j_geti C d_Item_take_1 fl_Item_30 cl_Item (by assumption) rfl ?_
  refine j_bipush (v := 8) C d_Item_take_4 (by decide) ?_
  refine j_icmp_eq (tgt := 17) C d_Item_take_6 (by decide) (fun c6 => ?_) (fun c6 => ?_)
  · skip
    rw [hsz, show (8 : Int32) = nI 8 from rfl, nI_eq (by omega) (by omega)] at c6
    refine j_iconst (v := 0) C d_Item_take_17 (by decide) ?_
    refine j_iret C E rfl (by first | rfl | exact nar_bI _) d_Item_take_18 ?_
    exact ⟨rfl, rfl, Or.inl ⟨rfl, rfl, by first | exact Or.inl c6 | exact Or.inr (by rw [e14]; simp)⟩⟩
  · skip
    rw [hsz, show (8 : Int32) = nI 8 from rfl, nI_eq (by omega) (by omega)] at c6
    skip
    refine j_aload_n C d_Item_take_9 rfl ?_
    refine j_iload_n C d_Item_take_10 rfl ?_
    refine j_callVr C [.int p] d_Item_take_11 ml_Item_36 mv_Item_of k_Item_of ⟨_, _, rfl⟩ ha (c_Item_of _ _ _ ha hsz hc hM hms p) (by decide) (by decide) rfl (Nat.le_of_ble_eq_true rfl) (Nat.le_of_ble_eq_true rfl) rfl (by simp [cat_rf, cat_int]) ?_
    refine j_ifnull (tgt := 19) C d_Item_take_14 (by decide) (fun e14 => ?_) (fun b14 e14 => ?_)
    · skip
      obtain ⟨m, hm⟩ := getE (ms := ms) (k := cnt) (by rw [hms.1]; omega)
      refine j_aload_n C d_Item_take_19 rfl ?_
      refine j_gets C d_Item_take_20 fl_Item_11 cl_Item rfl (by assumption) rfl hM (fun t20 => ?_)
      refine j_aload_n C d_Item_take_23 rfl ?_
      refine j_geti C d_Item_take_24 fl_Item_30 cl_Item (by assumption) rfl ?_
      refine j_aalds C cnt d_Item_take_27 (by assumption) (by decide) hsz (by omega) (by decide) ((hms.2 cnt (by omega)).trans hm) (fun t27 => ?_)
      refine j_iload_n C d_Item_take_28 rfl ?_
      refine j_puti C d_Item_take_29 fl_Item_33 cl_Member (fun C T N h => by cases h; exact Or.inl rfl) (by assumption) (fun f g => ⟨rfl, Nat.le_of_ble_eq_true rfl⟩) rfl rfl (fun mi29 hm29 => ?_)
      refine j_aload_n C d_Item_take_32 rfl ?_
      refine j_dup C d_Item_take_33 (by first | rfl | exact cat_rf _) ?_
      refine j_geti C d_Item_take_34 fl_Item_30 cl_Item (by assumption) rfl ?_
      refine j_iconst (v := 1) C d_Item_take_37 (by decide) ?_
      refine j_iadd C d_Item_take_38 ?_
      refine j_puti C d_Item_take_39 fl_Item_30 cl_Item (fun C T N h => by cases h; exact Or.inl rfl) (by assumption) (fun f g => ⟨rfl, Nat.le_of_ble_eq_true rfl⟩) rfl rfl (fun mi39 hm39 => ?_)
      refine j_iconst (v := 1) C d_Item_take_42 (by decide) ?_
      refine j_iret C E rfl (by first | rfl | exact nar_bI _) d_Item_take_43 ?_
      refine ⟨rfl, rfl, Or.inr ⟨rfl, by omega, e14, m, hm, ?_⟩⟩
      rw [hm39, hm29, ← nI_1 cnt, ← hsz]
      simp [up2_ap]
    · skip
      refine j_iconst (v := 0) C d_Item_take_17 (by decide) ?_
      refine j_iret C E rfl (by first | rfl | exact nar_bI _) d_Item_take_18 ?_
      exact ⟨rfl, rfl, Or.inl ⟨rfl, rfl, by first | exact Or.inl c6 | exact Or.inr (by rw [e14]; simp)⟩⟩

/-- the members behind forget: that of place k0 stands behind those that still count -/
def fgt (ms : List Nat) (k0 c1 m j : Nat) : Option Nat := if j < k0 then ms[j]? else if j < c1 then ms[j + 1]? else if j = c1 then some m else ms[j]?
def fgtP (tt : jT) (mi : jI) (mr : jR) (a M : Nat) (ms : List Nat) (k0 c1 m : Nat) : jPost := fun v tt' mi' mr' => v = none ∧ tt' = tt ∧ mi' = up2 mi a 2 (nI c1) ∧ (∀ b, b ≠ M → mr' b = mr b) ∧ ∀ j, j < 8 → mr' M j = fgt ms k0 c1 m j
set_option maxHeartbeats 4000000 in
set_option maxRecDepth 100000 in
/-- Item.forget(m) -/
theorem c_Item_forget (l : Launch) (D : jD) (N0 : Nat) {tt : jT} {mi : jI} {mr : jR} {a M cnt c1 k0 m : Nat} {ms : List Nat} (ha : tt a = some (.inl 0)) (hm : tt m = some (.inl 1)) (hsz : mi a 2 = nI cnt) (hcc : cnt = c1 + 1) (hc : cnt ≤ 8) (hM : mr a 1 = some M) (hms : rowM mr M ms) (hk0 : ms[k0]? = some m) (hlt : k0 < cnt) (hnd : ∀ k, k < 8 → ms[k]? = some m → k = k0) : Ct l D N0 0 0 0 y_Item_forget b_Item_forget 3 none [va_rf (some a), va_rf (some m)] tt mi mr (fgtP tt mi mr a M ms k0 c1 m) := by
  refine Ct.of "OrderDesk$Item" (by decide +kernel) rfl (by simp [cat_rf, cat_int]) (Nat.le_of_ble_eq_true rfl) (fun X hXl hXd hXn C E I hWT => ?_)
  subst hXl hXd hXn
  obtain ⟨mi2, hmi2⟩ : ∃ z, z = up2 mi a 2 (nI c1) := ⟨_, rfl⟩
  have hsz2 : mi2 a 2 = nI c1 := by rw [hmi2, up2_ap, if_pos ⟨rfl, rfl⟩]
  have tM : tt M = some (.inr (1, 8)) := hWT a _ 1 _ M ha rfl hM
  have haM : a ≠ M := fun e => by rw [← e, ha] at tM; cases tM
  have loop2 : ∀ (n k : Nat) (mr2 : jR), k0 ≤ k → k ≤ c1 → c1 < k + n → (∀ b, b ≠ M → mr2 b = mr b) → (∀ j, j < 8 → mr2 M j = if k0 ≤ j ∧ j < k then ms[j + 1]? else ms[j]?) → J X tt mi2 mr2 0 0 28 [some (va_rf (some a)), some (va_rf (some m)), some (.int (nI k))] [] := by
    intro n
    induction n with
    | zero => intro k mr2 h0 h1 h2; exact absurd h2 (by omega)
    | succ n ih =>
      intro k mr2 hk0k hk hn h1 h2
      refine j_iload_n C d_Item_forget_28 rfl ?_
      refine j_aload_n C d_Item_forget_29 rfl ?_
      refine j_geti C d_Item_forget_30 fl_Item_30 cl_Item (by assumption) rfl ?_
      refine j_icmp_ge (tgt := 56) C d_Item_forget_33 (by decide) (fun c33 => ?_) (fun c33 => ?_)
      · skip
        rw [hsz2, nI_leI (by omega) (by omega)] at c33
        refine j_aload_n C d_Item_forget_56 rfl ?_
        refine j_gets C d_Item_forget_57 fl_Item_11 cl_Item rfl (by assumption) rfl (by rw [h1 a haM]; exact hM) (fun t57 => ?_)
        refine j_aload_n C d_Item_forget_60 rfl ?_
        refine j_geti C d_Item_forget_61 fl_Item_30 cl_Item (by assumption) rfl ?_
        refine j_aload_n C d_Item_forget_64 rfl ?_
        refine j_aast C c1 d_Item_forget_65 (by assumption) (by decide) hsz2 (by omega) (by decide) (by assumption) (fun mr65 hr65 => ?_)
        refine j_vret C E d_Item_forget_66 ?_
        refine ⟨rfl, rfl, hmi2, fun b hb => by rw [hr65, up2_off _ _ _ _ hb, h1 b hb], fun j hj => ?_⟩
        rw [hr65, up2_ap]
        have ek : k = c1 := by omega
        subst ek
        unfold fgt
        by_cases e1 : j = k
        · subst e1
          rw [if_pos ⟨rfl, rfl⟩, if_neg (by omega), if_neg (by omega), if_pos rfl]
        · rw [if_neg (fun z => e1 z.2), h2 j hj]
          by_cases e2 : j < k0
          · rw [if_neg (by omega), if_pos e2]
          · by_cases e3 : j < k
            · rw [if_pos ⟨by omega, e3⟩, if_neg e2, if_pos e3]
            · rw [if_neg (by omega), if_neg e2, if_neg e3, if_neg e1]
      · skip
        rw [hsz2, nI_leI (by omega) (by omega)] at c33
        obtain ⟨x, hx⟩ := getE (ms := ms) (k := k + 1) (by rw [hms.1]; omega)
        refine j_aload_n C d_Item_forget_36 rfl ?_
        refine j_gets C d_Item_forget_37 fl_Item_11 cl_Item rfl (by assumption) rfl (by rw [h1 a haM]; exact hM) (fun t37 => ?_)
        refine j_iload_n C d_Item_forget_40 rfl ?_
        refine j_aload_n C d_Item_forget_41 rfl ?_
        refine j_gets C d_Item_forget_42 fl_Item_11 cl_Item rfl (by assumption) rfl (by rw [h1 a haM]; exact hM) (fun t42 => ?_)
        refine j_iload_n C d_Item_forget_45 rfl ?_
        refine j_iconst (v := 1) C d_Item_forget_46 (by decide) ?_
        refine j_iadd C d_Item_forget_47 ?_
        refine j_aalds C (k + 1) d_Item_forget_48 (by assumption) (by decide) (nI_1 k) (by omega) (by decide) (by rw [h2 (k + 1) (by omega), if_neg (by omega)]; exact hx) (fun t48 => ?_)
        refine j_aast C k d_Item_forget_49 (by assumption) (by decide) rfl (by omega) (by decide) (by assumption) (fun mr49 hr49 => ?_)
        refine j_iinc C d_Item_forget_50 rfl (nI_1 k) ?_
        refine j_goto (tgt := 28) C d_Item_forget_53 (by decide) ?_
        refine ih (k + 1) _ (by omega) (by omega) (by omega) (fun b hb => by rw [hr49, up2_off _ _ _ _ hb, h1 b hb]) (fun j hj => ?_)
        rw [hr49, up2_ap]
        by_cases e1 : j = k
        · subst e1
          rw [if_pos ⟨rfl, rfl⟩, if_pos ⟨by omega, by omega⟩, hx]
        · rw [if_neg (fun z => e1 z.2), h2 j hj]
          by_cases e2 : k0 ≤ j ∧ j < k
          · rw [if_pos e2, if_pos ⟨e2.1, by omega⟩]
          · rw [if_neg e2, if_neg (by omega)]
  have tail : J X tt mi mr 0 0 18 [some (va_rf (some a)), some (va_rf (some m)), some (.int (nI k0))] [] := by
    refine j_aload_n C d_Item_forget_18 rfl ?_
    refine j_dup C d_Item_forget_19 (by first | rfl | exact cat_rf _) ?_
    refine j_geti C d_Item_forget_20 fl_Item_30 cl_Item (by assumption) rfl ?_
    refine j_iconst (v := 1) C d_Item_forget_23 (by decide) ?_
    refine j_isub C d_Item_forget_24 ?_
    refine j_puti C d_Item_forget_25 fl_Item_30 cl_Item (fun C T N h => by cases h; exact Or.inl rfl) (by assumption) (fun f g => ⟨rfl, Nat.le_of_ble_eq_true rfl⟩) rfl rfl (fun mi25 hm25 => ?_)
    have e25 : mi25 = mi2 := by rw [hm25, hmi2, hsz, hcc]; congr 1; exact nI_pred c1
    rw [e25]
    exact loop2 (c1 + 1) k0 mr (Nat.le_refl _) (by omega) (by omega) (fun _ _ => rfl) (fun j hj => by rw [if_neg (by omega)]; exact hms.2 j hj)
  have loop1 : ∀ (n k : Nat), k ≤ k0 → k0 < k + n → J X tt mi mr 0 0 2 [some (va_rf (some a)), some (va_rf (some m)), some (.int (nI k))] [] := by
    intro n
    induction n with
    | zero => intro k h1 h2; exact absurd h2 (by omega)
    | succ n ih =>
      intro k hk hn
      obtain ⟨y, hmk⟩ := getE (ms := ms) (k := k) (by rw [hms.1]; omega)
      refine j_aload_n C d_Item_forget_2 rfl ?_
      refine j_gets C d_Item_forget_3 fl_Item_11 cl_Item rfl (by assumption) rfl hM (fun t3 => ?_)
      refine j_iload_n C d_Item_forget_6 rfl ?_
      refine j_aalds C k d_Item_forget_7 (by assumption) (by decide) rfl (by omega) (by decide) ((hms.2 k (by omega)).trans hmk) (fun t7 => ?_)
      refine j_aload_n C d_Item_forget_8 rfl ?_
      refine j_acmp_eq (tgt := 18) C d_Item_forget_9 (by decide) (fun c9 => ?_) (fun c9 => ?_)
      · skip
        have ek : k = k0 := hnd k (by omega) (by rw [hmk, c9])
        subst ek
        exact tail
      · skip
        have hk2 : k ≠ k0 := fun e => c9 (by rw [← hmk, e, hk0])
        refine j_iinc C d_Item_forget_12 rfl (nI_1 k) ?_
        refine j_goto (tgt := 2) C d_Item_forget_15 (by decide) ?_
        exact ih (k + 1) (by omega) (by omega)
  refine j_iconst (v := 0) C d_Item_forget_0 (by decide) ?_
  refine j_istore_n C d_Item_forget_1 (Nat.le_of_ble_eq_true rfl) ?_
  exact loop1 (k0 + 1) 0 (by omega) (by omega)

/-- what Line.remove and Orders.exit write: a ahead of m, f behind it; o the holder, first and last at its places kf, kl; ahead and after at ka, kb of the links -/
def lnkR (mr : jR) (o kf kl ka kb : Nat) (a f : Option Nat) : jR :=
  let mr1 := match a with
    | none => up2 mr o kf f
    | some x => up2 mr x kb f
  match f with
    | none => up2 mr1 o kl a
    | some y => up2 mr1 y ka a
/-- what Line.insert and Orders.enter write -/
def lnkI (mr : jR) (o kf kl ka kb m : Nat) (a f : Option Nat) : jR :=
  let mr1 := up2 (up2 mr m ka a) m kb f
  let mr2 := match a with
    | none => up2 mr1 o kf (some m)
    | some x => up2 mr1 x kb (some m)
  match f with
    | none => up2 mr2 o kl (some m)
    | some y => up2 mr2 y ka (some m)
set_option maxHeartbeats 4000000 in
set_option maxRecDepth 100000 in
/-- Line.remove(m) -/
theorem c_Line_remove (l : Launch) (D : jD) (N0 : Nat) {tt : jT} {mi : jI} {mr : jR} {l0 m : Nat} (hl : tt l0 = some (.inl 2)) (hm : tt m = some (.inl 1)) (hAm : mr m 3 ≠ some m) : Ct l D N0 0 0 0 y_Line_remove b_Line_remove 2 none [va_rf (some l0), va_rf (some m)] tt mi mr (pV tt (up2 mi l0 1 (mi l0 1 - 1)) (up2 (lnkR mr l0 2 3 3 4 (mr m 3) (mr m 4)) m 2 none)) := by
  refine Ct.of "OrderDesk$Line" (by decide +kernel) rfl (by simp [cat_rf, cat_int]) (Nat.le_of_ble_eq_true rfl) (fun X hXl hXd hXn C E I hWT => ?_)
  subst hXl hXd hXn
  have hne : l0 ≠ m := fun e => by rw [e, hm] at hl; cases hl
  have tA : ∀ x, mr m 3 = some x → tt x = some (.inl 1) := fun x h => hWT m _ 3 _ x hm rfl h
  have tF : ∀ x, mr m 4 = some x → tt x = some (.inl 1) := fun x h => hWT m _ 4 _ x hm rfl h
  rcases hA : mr m 3 with _ | x
  · rcases hF : mr m 4 with _ | y
    · skip
      refine j_aload_n C d_Line_remove_0 rfl ?_
      refine j_getk C d_Line_remove_1 fl_Line_25 cl_Member rfl (by assumption) rfl hA (fun t1 => ?_)
      refine j_ifnonnull_n (tgt := 18) C d_Line_remove_4 (by decide) ?_
      refine j_aload_n C d_Line_remove_7 rfl ?_
      refine j_aload_n C d_Line_remove_8 rfl ?_
      refine j_getk C d_Line_remove_9 fl_Line_35 cl_Member rfl (by assumption) rfl hF (fun t9 => ?_)
      refine j_putr C d_Line_remove_12 fl_Line_32 cl_Line (fun C T N h => by cases h; exact Or.inl rfl) rfl (by assumption) (by intro b hb; first | (cases hb; assumption) | cases hb) (fun f g => ⟨rfl, Nat.le_of_ble_eq_true rfl⟩) rfl (fun mr12 hr12 => ?_)
      refine j_goto (tgt := 29) C d_Line_remove_15 (by decide) ?_
      refine j_aload_n C d_Line_remove_29 rfl ?_
      refine j_getk (r := none) C d_Line_remove_30 fl_Line_35 cl_Member rfl (by assumption) rfl (by rw [hr12, up2_ap, if_neg (by intro z; exact hne z.1.symm)]; exact hF) (fun t30 => ?_)
      refine j_ifnonnull_n (tgt := 47) C d_Line_remove_33 (by decide) ?_
      refine j_aload_n C d_Line_remove_36 rfl ?_
      refine j_aload_n C d_Line_remove_37 rfl ?_
      refine j_getk (r := none) C d_Line_remove_38 fl_Line_25 cl_Member rfl (by assumption) rfl (by rw [hr12, up2_ap, if_neg (by intro z; exact hne z.1.symm)]; exact hA) (fun t38 => ?_)
      refine j_putr C d_Line_remove_41 fl_Line_7 cl_Line (fun C T N h => by cases h; exact Or.inl rfl) rfl (by assumption) (by intro b hb; first | (cases hb; assumption) | cases hb) (fun f g => ⟨rfl, Nat.le_of_ble_eq_true rfl⟩) rfl (fun mr41 hr41 => ?_)
      refine j_goto (tgt := 58) C d_Line_remove_44 (by decide) ?_
      refine j_aload_n C d_Line_remove_58 rfl ?_
      refine j_null C d_Line_remove_59 ?_
      refine j_putr C d_Line_remove_60 fl_Line_28 cl_Member (fun C T N h => by cases h; exact Or.inl rfl) rfl (by assumption) (by intro b hb; first | (cases hb; assumption) | cases hb) (fun f g => ⟨rfl, Nat.le_of_ble_eq_true rfl⟩) rfl (fun mr60 hr60 => ?_)
      refine j_aload_n C d_Line_remove_63 rfl ?_
      refine j_dup C d_Line_remove_64 (by first | rfl | exact cat_rf _) ?_
      refine j_geti C d_Line_remove_65 fl_Line_38 cl_Line (by assumption) rfl ?_
      refine j_iconst (v := 1) C d_Line_remove_68 (by decide) ?_
      refine j_isub C d_Line_remove_69 ?_
      refine j_puti C d_Line_remove_70 fl_Line_38 cl_Line (fun C T N h => by cases h; exact Or.inl rfl) (by assumption) (fun f g => ⟨rfl, Nat.le_of_ble_eq_true rfl⟩) rfl rfl (fun mi70 hm70 => ?_)
      refine j_vret C E d_Line_remove_73 ?_
      subst hm70 hr60 hr41 hr12
      exact ⟨rfl, rfl, rfl, by rw [hA, hF]; rfl⟩
    · skip
      have ty := tF y hF
      refine j_aload_n C d_Line_remove_0 rfl ?_
      refine j_getk C d_Line_remove_1 fl_Line_25 cl_Member rfl (by assumption) rfl hA (fun t1 => ?_)
      refine j_ifnonnull_n (tgt := 18) C d_Line_remove_4 (by decide) ?_
      refine j_aload_n C d_Line_remove_7 rfl ?_
      refine j_aload_n C d_Line_remove_8 rfl ?_
      refine j_getk C d_Line_remove_9 fl_Line_35 cl_Member rfl (by assumption) rfl hF (fun t9 => ?_)
      refine j_putr C d_Line_remove_12 fl_Line_32 cl_Line (fun C T N h => by cases h; exact Or.inl rfl) rfl (by assumption) (by intro b hb; first | (cases hb; assumption) | cases hb) (fun f g => ⟨rfl, Nat.le_of_ble_eq_true rfl⟩) rfl (fun mr12 hr12 => ?_)
      refine j_goto (tgt := 29) C d_Line_remove_15 (by decide) ?_
      refine j_aload_n C d_Line_remove_29 rfl ?_
      refine j_getk (r := (some y)) C d_Line_remove_30 fl_Line_35 cl_Member rfl (by assumption) rfl (by rw [hr12, up2_ap, if_neg (by intro z; exact hne z.1.symm)]; exact hF) (fun t30 => ?_)
      refine j_ifnonnull_s (tgt := 47) C d_Line_remove_33 (by decide) ?_
      refine j_aload_n C d_Line_remove_47 rfl ?_
      refine j_getk (r := (some y)) C d_Line_remove_48 fl_Line_35 cl_Member rfl (by assumption) rfl (by rw [hr12, up2_ap, if_neg (by intro z; exact hne z.1.symm)]; exact hF) (fun t48 => ?_)
      refine j_aload_n C d_Line_remove_51 rfl ?_
      refine j_getk (r := none) C d_Line_remove_52 fl_Line_25 cl_Member rfl (by assumption) rfl (by rw [hr12, up2_ap, if_neg (by intro z; exact hne z.1.symm)]; exact hA) (fun t52 => ?_)
      refine j_putr C d_Line_remove_55 fl_Line_25 cl_Member (fun C T N h => by cases h; exact Or.inl rfl) rfl (by assumption) (by intro b hb; first | (cases hb; assumption) | cases hb) (fun f g => ⟨rfl, Nat.le_of_ble_eq_true rfl⟩) rfl (fun mr55 hr55 => ?_)
      refine j_aload_n C d_Line_remove_58 rfl ?_
      refine j_null C d_Line_remove_59 ?_
      refine j_putr C d_Line_remove_60 fl_Line_28 cl_Member (fun C T N h => by cases h; exact Or.inl rfl) rfl (by assumption) (by intro b hb; first | (cases hb; assumption) | cases hb) (fun f g => ⟨rfl, Nat.le_of_ble_eq_true rfl⟩) rfl (fun mr60 hr60 => ?_)
      refine j_aload_n C d_Line_remove_63 rfl ?_
      refine j_dup C d_Line_remove_64 (by first | rfl | exact cat_rf _) ?_
      refine j_geti C d_Line_remove_65 fl_Line_38 cl_Line (by assumption) rfl ?_
      refine j_iconst (v := 1) C d_Line_remove_68 (by decide) ?_
      refine j_isub C d_Line_remove_69 ?_
      refine j_puti C d_Line_remove_70 fl_Line_38 cl_Line (fun C T N h => by cases h; exact Or.inl rfl) (by assumption) (fun f g => ⟨rfl, Nat.le_of_ble_eq_true rfl⟩) rfl rfl (fun mi70 hm70 => ?_)
      refine j_vret C E d_Line_remove_73 ?_
      subst hm70 hr60 hr55 hr12
      exact ⟨rfl, rfl, rfl, by rw [hA, hF]; rfl⟩
  · rcases hF : mr m 4 with _ | y
    · have hxm : x ≠ m := fun e => hAm (by rw [hA, e])
      have tx := tA x hA
      refine j_aload_n C d_Line_remove_0 rfl ?_
      refine j_getk C d_Line_remove_1 fl_Line_25 cl_Member rfl (by assumption) rfl hA (fun t1 => ?_)
      refine j_ifnonnull_s (tgt := 18) C d_Line_remove_4 (by decide) ?_
      refine j_aload_n C d_Line_remove_18 rfl ?_
      refine j_getk C d_Line_remove_19 fl_Line_25 cl_Member rfl (by assumption) rfl hA (fun t19 => ?_)
      refine j_aload_n C d_Line_remove_22 rfl ?_
      refine j_getk C d_Line_remove_23 fl_Line_35 cl_Member rfl (by assumption) rfl hF (fun t23 => ?_)
      refine j_putr C d_Line_remove_26 fl_Line_35 cl_Member (fun C T N h => by cases h; exact Or.inl rfl) rfl (by assumption) (by intro b hb; first | (cases hb; assumption) | cases hb) (fun f g => ⟨rfl, Nat.le_of_ble_eq_true rfl⟩) rfl (fun mr26 hr26 => ?_)
      refine j_aload_n C d_Line_remove_29 rfl ?_
      refine j_getk (r := none) C d_Line_remove_30 fl_Line_35 cl_Member rfl (by assumption) rfl (by rw [hr26, up2_ap, if_neg (by intro z; exact hxm z.1.symm)]; exact hF) (fun t30 => ?_)
      refine j_ifnonnull_n (tgt := 47) C d_Line_remove_33 (by decide) ?_
      refine j_aload_n C d_Line_remove_36 rfl ?_
      refine j_aload_n C d_Line_remove_37 rfl ?_
      refine j_getk (r := (some x)) C d_Line_remove_38 fl_Line_25 cl_Member rfl (by assumption) rfl (by rw [hr26, up2_ap, if_neg (by intro z; exact absurd z.2 (by decide))]; exact hA) (fun t38 => ?_)
      refine j_putr C d_Line_remove_41 fl_Line_7 cl_Line (fun C T N h => by cases h; exact Or.inl rfl) rfl (by assumption) (by intro b hb; first | (cases hb; assumption) | cases hb) (fun f g => ⟨rfl, Nat.le_of_ble_eq_true rfl⟩) rfl (fun mr41 hr41 => ?_)
      refine j_goto (tgt := 58) C d_Line_remove_44 (by decide) ?_
      refine j_aload_n C d_Line_remove_58 rfl ?_
      refine j_null C d_Line_remove_59 ?_
      refine j_putr C d_Line_remove_60 fl_Line_28 cl_Member (fun C T N h => by cases h; exact Or.inl rfl) rfl (by assumption) (by intro b hb; first | (cases hb; assumption) | cases hb) (fun f g => ⟨rfl, Nat.le_of_ble_eq_true rfl⟩) rfl (fun mr60 hr60 => ?_)
      refine j_aload_n C d_Line_remove_63 rfl ?_
      refine j_dup C d_Line_remove_64 (by first | rfl | exact cat_rf _) ?_
      refine j_geti C d_Line_remove_65 fl_Line_38 cl_Line (by assumption) rfl ?_
      refine j_iconst (v := 1) C d_Line_remove_68 (by decide) ?_
      refine j_isub C d_Line_remove_69 ?_
      refine j_puti C d_Line_remove_70 fl_Line_38 cl_Line (fun C T N h => by cases h; exact Or.inl rfl) (by assumption) (fun f g => ⟨rfl, Nat.le_of_ble_eq_true rfl⟩) rfl rfl (fun mi70 hm70 => ?_)
      refine j_vret C E d_Line_remove_73 ?_
      subst hm70 hr60 hr41 hr26
      exact ⟨rfl, rfl, rfl, by rw [hA, hF]; rfl⟩
    · have hxm : x ≠ m := fun e => hAm (by rw [hA, e])
      have tx := tA x hA
      have ty := tF y hF
      refine j_aload_n C d_Line_remove_0 rfl ?_
      refine j_getk C d_Line_remove_1 fl_Line_25 cl_Member rfl (by assumption) rfl hA (fun t1 => ?_)
      refine j_ifnonnull_s (tgt := 18) C d_Line_remove_4 (by decide) ?_
      refine j_aload_n C d_Line_remove_18 rfl ?_
      refine j_getk C d_Line_remove_19 fl_Line_25 cl_Member rfl (by assumption) rfl hA (fun t19 => ?_)
      refine j_aload_n C d_Line_remove_22 rfl ?_
      refine j_getk C d_Line_remove_23 fl_Line_35 cl_Member rfl (by assumption) rfl hF (fun t23 => ?_)
      refine j_putr C d_Line_remove_26 fl_Line_35 cl_Member (fun C T N h => by cases h; exact Or.inl rfl) rfl (by assumption) (by intro b hb; first | (cases hb; assumption) | cases hb) (fun f g => ⟨rfl, Nat.le_of_ble_eq_true rfl⟩) rfl (fun mr26 hr26 => ?_)
      refine j_aload_n C d_Line_remove_29 rfl ?_
      refine j_getk (r := (some y)) C d_Line_remove_30 fl_Line_35 cl_Member rfl (by assumption) rfl (by rw [hr26, up2_ap, if_neg (by intro z; exact hxm z.1.symm)]; exact hF) (fun t30 => ?_)
      refine j_ifnonnull_s (tgt := 47) C d_Line_remove_33 (by decide) ?_
      refine j_aload_n C d_Line_remove_47 rfl ?_
      refine j_getk (r := (some y)) C d_Line_remove_48 fl_Line_35 cl_Member rfl (by assumption) rfl (by rw [hr26, up2_ap, if_neg (by intro z; exact hxm z.1.symm)]; exact hF) (fun t48 => ?_)
      refine j_aload_n C d_Line_remove_51 rfl ?_
      refine j_getk (r := (some x)) C d_Line_remove_52 fl_Line_25 cl_Member rfl (by assumption) rfl (by rw [hr26, up2_ap, if_neg (by intro z; exact absurd z.2 (by decide))]; exact hA) (fun t52 => ?_)
      refine j_putr C d_Line_remove_55 fl_Line_25 cl_Member (fun C T N h => by cases h; exact Or.inl rfl) rfl (by assumption) (by intro b hb; first | (cases hb; assumption) | cases hb) (fun f g => ⟨rfl, Nat.le_of_ble_eq_true rfl⟩) rfl (fun mr55 hr55 => ?_)
      refine j_aload_n C d_Line_remove_58 rfl ?_
      refine j_null C d_Line_remove_59 ?_
      refine j_putr C d_Line_remove_60 fl_Line_28 cl_Member (fun C T N h => by cases h; exact Or.inl rfl) rfl (by assumption) (by intro b hb; first | (cases hb; assumption) | cases hb) (fun f g => ⟨rfl, Nat.le_of_ble_eq_true rfl⟩) rfl (fun mr60 hr60 => ?_)
      refine j_aload_n C d_Line_remove_63 rfl ?_
      refine j_dup C d_Line_remove_64 (by first | rfl | exact cat_rf _) ?_
      refine j_geti C d_Line_remove_65 fl_Line_38 cl_Line (by assumption) rfl ?_
      refine j_iconst (v := 1) C d_Line_remove_68 (by decide) ?_
      refine j_isub C d_Line_remove_69 ?_
      refine j_puti C d_Line_remove_70 fl_Line_38 cl_Line (fun C T N h => by cases h; exact Or.inl rfl) (by assumption) (fun f g => ⟨rfl, Nat.le_of_ble_eq_true rfl⟩) rfl rfl (fun mi70 hm70 => ?_)
      refine j_vret C E d_Line_remove_73 ?_
      subst hm70 hr60 hr55 hr26
      exact ⟨rfl, rfl, rfl, by rw [hA, hF]; rfl⟩
end
section
/-! chains, the insertion, the questions of Orders -/
/-- a chain by place k: from h on the cells xs, then null -/
def sl (mr : jR) (k : Nat) : Option Nat → List Nat → Prop
  | h, [] => h = none
  | h, x :: xs => h = some x ∧ sl mr k (mr x k) xs
theorem itemF_spec {x : Int32} (h : itemF x = true) : x.toNatClampNeg < 200 ∧ x = nI x.toNatClampNeg := by
  simp only [itemF, Bool.and_eq_true, Bool.not_eq_true', decide_eq_false_iff_not] at h
  obtain ⟨j, hj, e⟩ := nI_of h.1
  have h2 := h.2
  rw [e, show (200 : Int32) = nI 200 from rfl, nI_leI (by omega) hj] at h2
  rw [e, nI_clamp hj]
  exact ⟨by omega, rfl⟩
theorem itemF_nI {i : Nat} (h : i < 200) : itemF (nI i) = true := by
  simp only [itemF, Bool.and_eq_true, Bool.not_eq_true', decide_eq_false_iff_not]
  refine ⟨nI_pos (by omega), ?_⟩
  rw [show (200 : Int32) = nI 200 from rfl, nI_leI (by omega) (by omega)]
  omega
def qF (mi : jI) (it : Nat → Nat) (x : Int32) : Option Nat := if itemF x = true then (if mi (it x.toNatClampNeg) 5 = 0 then none else some (it x.toNatClampNeg)) else none

set_option maxHeartbeats 4000000 in
set_option maxRecDepth 100000 in
/-- Lines.find(p) -/
theorem c_Lines_find (l : Launch) (D : jD) (N0 : Nat) {tt : jT} {mi : jI} {mr : jR} {a ch : Nat} {Cl : List Nat} (p : Int32) (ha : tt a = some (.inl 3)) (hch : mr a 0 = some ch) (hsl : sl mr 4 (mr ch (chF p)) Cl) : Ct l D N0 1 0 0 y_Lines_find b_Lines_find 3 (some (.object "OrderDesk$Line")) [va_rf (some a), .int p] tt mi mr (pR (Cl.find? (fun l => decide (mi l 0 = p))) tt mi mr) := by
  refine Ct.of "OrderDesk$Lines" (by decide +kernel) rfl (by simp [cat_rf, cat_int]) (Nat.le_of_ble_eq_true rfl) (fun X hXl hXd hXn C E I hWT => ?_)
  subst hXl hXd hXn
  refine j_aload_n C d_Lines_find_0 rfl ?_
  refine j_gets C d_Lines_find_1 fl_Lines_11 cl_Lines rfl (by assumption) rfl hch (fun t1 => ?_)
  refine j_iload_n C d_Lines_find_4 rfl ?_
  refine j_callSi C [.int p] d_Lines_find_5 ml_Lines_27 ms_Lines_chain k_Lines_chain (c_Lines_chain _ _ _ p) (by decide) (by decide) rfl (Nat.le_of_ble_eq_true rfl) (Nat.le_of_ble_eq_true rfl) rfl (by simp [cat_rf, cat_int]) ?_
  refine j_aald C (chF p) d_Lines_find_8 (by assumption) (by decide) (chF_ok p).1 (chF_ok p).2 (by decide) (fun r8 h8 t8 => ?_)
  refine j_astore_n C d_Lines_find_9 (Nat.le_of_ble_eq_true rfl) ?_
  have loop : ∀ (C1 : List Nat) (r : Option Nat), sl mr 4 r C1 → (∀ b, r = some b → tt b = some (.inl 2)) → Cl.find? (fun l => decide (mi l 0 = p)) = C1.find? (fun l => decide (mi l 0 = p)) → J X tt mi mr 0 0 10 [some (va_rf (some a)), some (.int p), some (va_rf r)] [] := by
    intro C1
    induction C1 with
    | nil =>
      intro r h hT hf
      have h : r = none := h
      subst h
      refine j_aload_n C d_Lines_find_10 rfl ?_
      refine j_ifnull_n (tgt := 30) C d_Lines_find_11 (by decide) ?_
      refine j_aload_n C d_Lines_find_30 rfl ?_
      refine j_aret C E d_Lines_find_31 ?_
      exact ⟨by rw [hf]; rfl, rfl, rfl, rfl⟩
    | cons x xs ih =>
      intro r h hT hf
      have h9 : r = some x ∧ sl mr 4 (mr x 4) xs := h
      obtain ⟨rfl, h9⟩ := h9
      refine j_aload_n C d_Lines_find_10 rfl ?_
      refine j_ifnull_s (tgt := 30) C d_Lines_find_11 (by decide) ?_
      refine j_aload_n C d_Lines_find_14 rfl ?_
      refine j_geti C d_Lines_find_15 fl_Lines_31 cl_Line (hT x rfl) rfl ?_
      refine j_iload_n C d_Lines_find_18 rfl ?_
      refine j_icmp_eq (tgt := 30) C d_Lines_find_19 (by decide) (fun c19 => ?_) (fun c19 => ?_)
      · skip
        rw [List.find?_cons_of_pos (by simpa using c19)] at hf
        refine j_aload_n C d_Lines_find_30 rfl ?_
        refine j_aret C E d_Lines_find_31 ?_
        exact ⟨by rw [hf], rfl, rfl, rfl⟩
      · skip
        rw [List.find?_cons_of_neg (by simpa using c19)] at hf
        refine j_aload_n C d_Lines_find_22 rfl ?_
        refine j_getr C d_Lines_find_23 fl_Lines_24 cl_Line rfl (hT x rfl) rfl (fun r23 h23 t23 => ?_)
        refine j_astore_n C d_Lines_find_26 (Nat.le_of_ble_eq_true rfl) ?_
        refine j_goto (tgt := 10) C d_Lines_find_27 (by decide) ?_
        exact ih r23 (by rw [← h23]; exact h9) t23 hf
  exact loop Cl r8 (by rw [← h8]; exact hsl) t8 rfl

set_option maxHeartbeats 4000000 in
set_option maxRecDepth 100000 in
/-- Lines.need(p), there is a line -/
theorem c_Lines_need_old (l : Launch) (D : jD) (N0 : Nat) {tt : jT} {mi : jI} {mr : jR} {a ch : Nat} {Cl : List Nat} (p : Int32) (ha : tt a = some (.inl 3)) (hch : mr a 0 = some ch) (hsl : sl mr 4 (mr ch (chF p)) Cl) {q : Nat} (hfind : Cl.find? (fun l => decide (mi l 0 = p)) = some q) : Ct l D N0 2 0 0 y_Lines_need b_Lines_need 3 (some (.object "OrderDesk$Line")) [va_rf (some a), .int p] tt mi mr (pR (some q) tt mi mr) := by
  refine Ct.of "OrderDesk$Lines" (by decide +kernel) rfl (by simp [cat_rf, cat_int]) (Nat.le_of_ble_eq_true rfl) (fun X hXl hXd hXn C E I hWT => ?_)
  subst hXl hXd hXn
  refine j_aload_n C d_Lines_need_0 rfl ?_
  refine j_iload_n C d_Lines_need_1 rfl ?_
  refine j_callVr C [.int p] d_Lines_need_2 ml_Lines_35 mv_Lines_find k_Lines_find ⟨_, _, rfl⟩ (by assumption) (c_Lines_find _ _ _ p ha hch hsl) (by decide) (by decide) rfl (Nat.le_of_ble_eq_true rfl) (Nat.le_of_ble_eq_true rfl) rfl (by simp [cat_rf, cat_int]) ?_
  rw [hfind]
  refine j_astore_n C d_Lines_need_5 (Nat.le_of_ble_eq_true rfl) ?_
  refine j_aload_n C d_Lines_need_6 rfl ?_
  refine j_ifnull_s (tgt := 12) C d_Lines_need_7 (by decide) ?_
  refine j_aload_n C d_Lines_need_10 rfl ?_
  refine j_aret C E d_Lines_need_11 ?_
  exact ⟨rfl, rfl, rfl, rfl⟩

set_option maxHeartbeats 4000000 in
set_option maxRecDepth 100000 in
/-- Lines.need(p), a line is made -/
theorem c_Lines_need_new (l : Launch) (D : jD) (N0 : Nat) {tt : jT} {mi : jI} {mr : jR} {a ch : Nat} {Cl : List Nat} (p : Int32) (ha : tt a = some (.inl 3)) (hch : mr a 0 = some ch) (hsl : sl mr 4 (mr ch (chF p)) Cl) {q : Nat} (hfind : Cl.find? (fun l => decide (mi l 0 = p)) = none) (hfree : mr a 1 = some q) : Ct l D N0 2 0 0 y_Lines_need b_Lines_need 3 (some (.object "OrderDesk$Line")) [va_rf (some a), .int p] tt mi mr (pR (some q) tt (up2 (up2 mi q 0 p) a 2 (mi a 2 + 1)) (up2 (up2 (up2 mr a 1 (mr q 4)) q 4 (mr ch (chF p))) ch (chF p) (some q))) := by
  refine Ct.of "OrderDesk$Lines" (by decide +kernel) rfl (by simp [cat_rf, cat_int]) (Nat.le_of_ble_eq_true rfl) (fun X hXl hXd hXn C E I hWT => ?_)
  subst hXl hXd hXn
  have hne : ch ≠ a := fun e => by have h := hWT a _ 0 _ ch ha rfl hch; rw [e, ha] at h; cases h
  refine j_aload_n C d_Lines_need_0 rfl ?_
  refine j_iload_n C d_Lines_need_1 rfl ?_
  refine j_callVr C [.int p] d_Lines_need_2 ml_Lines_35 mv_Lines_find k_Lines_find ⟨_, _, rfl⟩ (by assumption) (c_Lines_find _ _ _ p ha hch hsl) (by decide) (by decide) rfl (Nat.le_of_ble_eq_true rfl) (Nat.le_of_ble_eq_true rfl) rfl (by simp [cat_rf, cat_int]) ?_
  rw [hfind]
  refine j_astore_n C d_Lines_need_5 (Nat.le_of_ble_eq_true rfl) ?_
  refine j_aload_n C d_Lines_need_6 rfl ?_
  refine j_ifnull_n (tgt := 12) C d_Lines_need_7 (by decide) ?_
  refine j_aload_n C d_Lines_need_12 rfl ?_
  refine j_gets C d_Lines_need_13 fl_Lines_20 cl_Lines rfl (by assumption) rfl hfree (fun t13 => ?_)
  refine j_astore_n C d_Lines_need_16 (Nat.le_of_ble_eq_true rfl) ?_
  refine j_aload_n C d_Lines_need_17 rfl ?_
  refine j_aload_n C d_Lines_need_18 rfl ?_
  refine j_getr C d_Lines_need_19 fl_Lines_24 cl_Line rfl (by assumption) rfl (fun r19 h19 t19 => ?_)
  refine j_putr C d_Lines_need_22 fl_Lines_20 cl_Lines (fun C T N h => by cases h; exact Or.inl rfl) rfl (by assumption) (by first | assumption | (intro b hb; cases hb; assumption) | (intro b hb; cases hb)) (fun f g => ⟨rfl, Nat.le_of_ble_eq_true rfl⟩) rfl (fun mr22 hr22 => ?_)
  refine j_aload_n C d_Lines_need_25 rfl ?_
  refine j_iload_n C d_Lines_need_26 rfl ?_
  refine j_puti C d_Lines_need_27 fl_Lines_31 cl_Line (fun C T N h => by cases h; exact Or.inl rfl) (by assumption) (fun f g => ⟨rfl, Nat.le_of_ble_eq_true rfl⟩) rfl rfl (fun mi27 hm27 => ?_)
  refine j_aload_n C d_Lines_need_30 rfl ?_
  refine j_aload_n C d_Lines_need_31 rfl ?_
  refine j_gets (b := ch) C d_Lines_need_32 fl_Lines_11 cl_Lines rfl (by assumption) rfl (by rw [hr22, up2_ap, if_neg (by simp)]; exact hch) (fun t32 => ?_)
  refine j_iload_n C d_Lines_need_35 rfl ?_
  refine j_callSi C [.int p] d_Lines_need_36 ml_Lines_27 ms_Lines_chain k_Lines_chain (c_Lines_chain _ _ _ p) (by decide) (by decide) rfl (Nat.le_of_ble_eq_true rfl) (Nat.le_of_ble_eq_true rfl) rfl (by simp [cat_rf, cat_int]) ?_
  refine j_aald C (chF p) d_Lines_need_39 (by assumption) (by decide) (chF_ok p).1 (chF_ok p).2 (by decide) (fun r39 h39 t39 => ?_)
  refine j_putr C d_Lines_need_40 fl_Lines_24 cl_Line (fun C T N h => by cases h; exact Or.inl rfl) rfl (by assumption) (by first | assumption | (intro b hb; cases hb; assumption) | (intro b hb; cases hb)) (fun f g => ⟨rfl, Nat.le_of_ble_eq_true rfl⟩) rfl (fun mr40 hr40 => ?_)
  refine j_aload_n C d_Lines_need_43 rfl ?_
  refine j_gets (b := ch) C d_Lines_need_44 fl_Lines_11 cl_Lines rfl (by assumption) rfl (by rw [hr40, up2_ap, if_neg (by simp), hr22, up2_ap, if_neg (by simp)]; exact hch) (fun t44 => ?_)
  refine j_iload_n C d_Lines_need_47 rfl ?_
  refine j_callSi C [.int p] d_Lines_need_48 ml_Lines_27 ms_Lines_chain k_Lines_chain (c_Lines_chain _ _ _ p) (by decide) (by decide) rfl (Nat.le_of_ble_eq_true rfl) (Nat.le_of_ble_eq_true rfl) rfl (by simp [cat_rf, cat_int]) ?_
  refine j_aload_n C d_Lines_need_51 rfl ?_
  refine j_aast C (chF p) d_Lines_need_52 (by assumption) (by decide) (chF_ok p).1 (chF_ok p).2 (by decide) (by assumption) (fun mr52 hr52 => ?_)
  refine j_aload_n C d_Lines_need_53 rfl ?_
  refine j_dup C d_Lines_need_54 (by first | rfl | exact cat_rf _) ?_
  refine j_geti C d_Lines_need_55 fl_Lines_39 cl_Lines (by assumption) rfl ?_
  refine j_iconst (v := 1) C d_Lines_need_58 (by decide) ?_
  refine j_iadd C d_Lines_need_59 ?_
  refine j_puti C d_Lines_need_60 fl_Lines_39 cl_Lines (fun C T N h => by cases h; exact Or.inl rfl) (by assumption) (fun f g => ⟨rfl, Nat.le_of_ble_eq_true rfl⟩) rfl rfl (fun mi60 hm60 => ?_)
  refine j_aload_n C d_Lines_need_63 rfl ?_
  refine j_aret C E d_Lines_need_64 ?_
  refine ⟨rfl, rfl, ?_, ?_⟩
  · rw [hm60, hm27]
    simp [up2_ap]
  · rw [hr52, hr40, ← h39, hr22, ← h19]
    congr 2
    rw [up2_off _ _ _ _ hne]

/-- what Lines.drop writes: the line q, behind A in the chain ch, c; then it is given to the free ones of a -/
def drp (mr : jR) (a ch c q : Nat) (z : Option Nat) : jR :=
  let mr1 := match z with
    | none => up2 mr ch c (mr q 4)
    | some y => up2 mr y 4 (mr q 4)
  up2 (up2 mr1 q 4 (mr1 a 1)) a 1 (some q)
set_option maxHeartbeats 4000000 in
set_option maxRecDepth 100000 in
/-- Lines.drop(q) -/
theorem c_Lines_drop (l : Launch) (D : jD) (N0 : Nat) {tt : jT} {mi : jI} {mr : jR} {a ch q : Nat} {A B : List Nat} (ha : tt a = some (.inl 3)) (hq : tt q = some (.inl 2)) (hch : mr a 0 = some ch) (hsl : sl mr 4 (mr ch (chF (mi q 0))) (A ++ q :: B)) (hqA : q ∉ A) : Ct l D N0 1 0 0 y_Lines_drop b_Lines_drop 4 none [va_rf (some a), va_rf (some q)] tt mi mr (pV tt (up2 mi a 2 (mi a 2 - 1)) (drp mr a ch (chF (mi q 0)) q A.getLast?)) := by
  refine Ct.of "OrderDesk$Lines" (by decide +kernel) rfl (by simp [cat_rf, cat_int]) (Nat.le_of_ble_eq_true rfl) (fun X hXl hXd hXn C E I hWT => ?_)
  subst hXl hXd hXn
  cases A with
  | nil =>
    have hsl : mr ch (chF (mi q 0)) = some q ∧ sl mr 4 (mr q 4) B := hsl
    refine j_aload_n C d_Lines_drop_0 rfl ?_
    refine j_geti C d_Lines_drop_1 fl_Lines_31 cl_Line (by assumption) rfl ?_
    refine j_callSi C [.int (mi q 0)] d_Lines_drop_4 ml_Lines_27 ms_Lines_chain k_Lines_chain (c_Lines_chain _ _ _ (mi q 0)) (by decide) (by decide) rfl (Nat.le_of_ble_eq_true rfl) (Nat.le_of_ble_eq_true rfl) rfl (by simp [cat_rf, cat_int]) ?_
    refine j_istore_n C d_Lines_drop_7 (Nat.le_of_ble_eq_true rfl) ?_
    refine j_aload_n C d_Lines_drop_8 rfl ?_
    refine j_gets C d_Lines_drop_9 fl_Lines_11 cl_Lines rfl (by assumption) rfl hch (fun t9 => ?_)
    refine j_iload_n C d_Lines_drop_12 rfl ?_
    refine j_aalds C (chF (mi q 0)) d_Lines_drop_13 (by assumption) (by decide) (chF_ok (mi q 0)).1 (chF_ok (mi q 0)).2 (by decide) hsl.1 (fun t13 => ?_)
    refine j_aload_n C d_Lines_drop_14 rfl ?_
    refine j_acmp_ne (tgt := 31) C d_Lines_drop_15 (by decide) (fun c15 => ?_) (fun c15 => ?_)
    · skip
      exact absurd rfl c15
    · skip
      refine j_aload_n C d_Lines_drop_18 rfl ?_
      refine j_gets C d_Lines_drop_19 fl_Lines_11 cl_Lines rfl (by assumption) rfl hch (fun t19 => ?_)
      refine j_iload_n C d_Lines_drop_22 rfl ?_
      refine j_aload_n C d_Lines_drop_23 rfl ?_
      refine j_getr C d_Lines_drop_24 fl_Lines_24 cl_Line rfl (by assumption) rfl (fun r24 h24 t24 => ?_)
      refine j_aastq C (chF (mi q 0)) d_Lines_drop_27 (by assumption) (by decide) (chF_ok (mi q 0)).1 (chF_ok (mi q 0)).2 (by decide) t24 (fun mr27 hr27 => ?_)
      refine j_goto (tgt := 62) C d_Lines_drop_28 (by decide) ?_
      refine j_aload_n C d_Lines_drop_62 rfl ?_
      refine j_aload_n C d_Lines_drop_63 rfl ?_
      refine j_callVv C [va_rf (some q)] d_Lines_drop_64 ml_Lines_16 mv_Lines_give k_Lines_give ⟨_, _, rfl⟩ (by assumption) (c_Lines_give _ _ _ ha hq) (by decide) (by decide) rfl (Nat.le_of_ble_eq_true rfl) (Nat.le_of_ble_eq_true rfl) rfl (by simp [cat_rf, cat_int]) ?_
      refine j_aload_n C d_Lines_drop_67 rfl ?_
      refine j_dup C d_Lines_drop_68 (by first | rfl | exact cat_rf _) ?_
      refine j_geti C d_Lines_drop_69 fl_Lines_39 cl_Lines (by assumption) rfl ?_
      refine j_iconst (v := 1) C d_Lines_drop_72 (by decide) ?_
      refine j_isub C d_Lines_drop_73 ?_
      refine j_puti C d_Lines_drop_74 fl_Lines_39 cl_Lines (fun C T N h => by cases h; exact Or.inl rfl) (by assumption) (fun f g => ⟨rfl, Nat.le_of_ble_eq_true rfl⟩) rfl rfl (fun mi74 hm74 => ?_)
      refine j_vret C E d_Lines_drop_77 ?_
      subst hm74 hr27 h24
      exact ⟨rfl, rfl, rfl, rfl⟩
  | cons z A =>
    have hsl : mr ch (chF (mi q 0)) = some z ∧ sl mr 4 (mr z 4) (A ++ q :: B) := hsl
    have tail : ∀ y, (z :: A).getLast? = some y → tt y = some (.inl 2) → J X tt mi mr 0 0 54 [some (va_rf (some a)), some (va_rf (some q)), some (.int (chI (mi q 0))), some (va_rf (some y))] [] := by
      intro y hlast hty
      refine j_aload_n C d_Lines_drop_54 rfl ?_
      refine j_aload_n C d_Lines_drop_55 rfl ?_
      refine j_getr C d_Lines_drop_56 fl_Lines_24 cl_Line rfl (by assumption) rfl (fun r56 h56 t56 => ?_)
      refine j_putr C d_Lines_drop_59 fl_Lines_24 cl_Line (fun C T N h => by cases h; exact Or.inl rfl) rfl (by assumption) (by first | assumption | (intro b hb; cases hb; assumption) | (intro b hb; cases hb)) (fun f g => ⟨rfl, Nat.le_of_ble_eq_true rfl⟩) rfl (fun mr59 hr59 => ?_)
      refine j_aload_n C d_Lines_drop_62 rfl ?_
      refine j_aload_n C d_Lines_drop_63 rfl ?_
      refine j_callVv C [va_rf (some q)] d_Lines_drop_64 ml_Lines_16 mv_Lines_give k_Lines_give ⟨_, _, rfl⟩ (by assumption) (c_Lines_give _ _ _ ha hq) (by decide) (by decide) rfl (Nat.le_of_ble_eq_true rfl) (Nat.le_of_ble_eq_true rfl) rfl (by simp [cat_rf, cat_int]) ?_
      refine j_aload_n C d_Lines_drop_67 rfl ?_
      refine j_dup C d_Lines_drop_68 (by first | rfl | exact cat_rf _) ?_
      refine j_geti C d_Lines_drop_69 fl_Lines_39 cl_Lines (by assumption) rfl ?_
      refine j_iconst (v := 1) C d_Lines_drop_72 (by decide) ?_
      refine j_isub C d_Lines_drop_73 ?_
      refine j_puti C d_Lines_drop_74 fl_Lines_39 cl_Lines (fun C T N h => by cases h; exact Or.inl rfl) (by assumption) (fun f g => ⟨rfl, Nat.le_of_ble_eq_true rfl⟩) rfl rfl (fun mi74 hm74 => ?_)
      refine j_vret C E d_Lines_drop_77 ?_
      subst hm74 hr59 h56
      exact ⟨rfl, rfl, rfl, by rw [hlast]; rfl⟩
    have loop : ∀ (A2 A1 : List Nat) (y : Nat), z :: A = A1 ++ y :: A2 → tt y = some (.inl 2) → sl mr 4 (mr y 4) (A2 ++ q :: B) → J X tt mi mr 0 0 38 [some (va_rf (some a)), some (va_rf (some q)), some (.int (chI (mi q 0))), some (va_rf (some y))] [] := by
      intro A2
      induction A2 with
      | nil =>
        intro A1 y hA hty h
        have h : mr y 4 = some q ∧ sl mr 4 (mr q 4) B := h
        refine j_aload_n C d_Lines_drop_38 rfl ?_
        refine j_gets (b := q) C d_Lines_drop_39 fl_Lines_24 cl_Line rfl (by assumption) rfl h.1 (fun t39 => ?_)
        refine j_aload_n C d_Lines_drop_42 rfl ?_
        refine j_acmp_eq (tgt := 54) C d_Lines_drop_43 (by decide) (fun c43 => ?_) (fun c43 => ?_)
        · skip
          exact tail y (by rw [hA]; simp) hty
        · skip
          exact absurd rfl c43
      | cons w A2 ih =>
        intro A1 y hA hty h
        have h : mr y 4 = some w ∧ sl mr 4 (mr w 4) (A2 ++ q :: B) := h
        refine j_aload_n C d_Lines_drop_38 rfl ?_
        refine j_gets (b := w) C d_Lines_drop_39 fl_Lines_24 cl_Line rfl (by assumption) rfl h.1 (fun t39 => ?_)
        refine j_aload_n C d_Lines_drop_42 rfl ?_
        refine j_acmp_eq (tgt := 54) C d_Lines_drop_43 (by decide) (fun c43 => ?_) (fun c43 => ?_)
        · skip
          exact absurd (Option.some.inj c43) (fun e => hqA (by rw [hA, e]; simp))
        · skip
          refine j_aload_n C d_Lines_drop_46 rfl ?_
          refine j_gets (b := w) C d_Lines_drop_47 fl_Lines_24 cl_Line rfl (by assumption) rfl h.1 (fun t47 => ?_)
          refine j_astore_n C d_Lines_drop_50 (Nat.le_of_ble_eq_true rfl) ?_
          refine j_goto (tgt := 38) C d_Lines_drop_51 (by decide) ?_
          exact ih (A1 ++ [y]) w (by rw [hA]; simp) t47 h.2
    refine j_aload_n C d_Lines_drop_0 rfl ?_
    refine j_geti C d_Lines_drop_1 fl_Lines_31 cl_Line (by assumption) rfl ?_
    refine j_callSi C [.int (mi q 0)] d_Lines_drop_4 ml_Lines_27 ms_Lines_chain k_Lines_chain (c_Lines_chain _ _ _ (mi q 0)) (by decide) (by decide) rfl (Nat.le_of_ble_eq_true rfl) (Nat.le_of_ble_eq_true rfl) rfl (by simp [cat_rf, cat_int]) ?_
    refine j_istore_n C d_Lines_drop_7 (Nat.le_of_ble_eq_true rfl) ?_
    refine j_aload_n C d_Lines_drop_8 rfl ?_
    refine j_gets C d_Lines_drop_9 fl_Lines_11 cl_Lines rfl (by assumption) rfl hch (fun t9 => ?_)
    refine j_iload_n C d_Lines_drop_12 rfl ?_
    refine j_aalds C (chF (mi q 0)) d_Lines_drop_13 (by assumption) (by decide) (chF_ok (mi q 0)).1 (chF_ok (mi q 0)).2 (by decide) hsl.1 (fun t13 => ?_)
    refine j_aload_n C d_Lines_drop_14 rfl ?_
    refine j_acmp_ne (tgt := 31) C d_Lines_drop_15 (by decide) (fun c15 => ?_) (fun c15 => ?_)
    · skip
      refine j_aload_n C d_Lines_drop_31 rfl ?_
      refine j_gets C d_Lines_drop_32 fl_Lines_11 cl_Lines rfl (by assumption) rfl hch (fun t32 => ?_)
      refine j_iload_n C d_Lines_drop_35 rfl ?_
      refine j_aalds C (chF (mi q 0)) d_Lines_drop_36 (by assumption) (by decide) (chF_ok (mi q 0)).1 (chF_ok (mi q 0)).2 (by decide) hsl.1 (fun t36 => ?_)
      refine j_astore_n C d_Lines_drop_37 (Nat.le_of_ble_eq_true rfl) ?_
      exact loop A [] z rfl t36 hsl.2
    · skip
      exact absurd (Option.some.inj c15) (fun e => hqA (by rw [e]; exact List.mem_cons_self))

set_option maxHeartbeats 4000000 in
set_option maxRecDepth 100000 in
/-- Orders.queued(x) -/
theorem c_Orders_queued (l : Launch) (D : jD) (N0 : Nat) {tt : jT} {mi : jI} {mr : jR} {a ia : Nat} {it : Nat → Nat} (ha : tt a = some (.inl 4)) (hia : mr a 0 = some ia) (hit : ∀ i, i < 200 → mr ia i = some (it i)) (x : Int32) : Ct l D N0 1 0 0 y_Orders_queued b_Orders_queued 2 (some (.object "OrderDesk$Item")) [va_rf (some a), .int x] tt mi mr (pR (qF mi it x) tt mi mr) := by
  refine Ct.of "OrderDesk$Orders" (by decide +kernel) rfl (by simp [cat_rf, cat_int]) (Nat.le_of_ble_eq_true rfl) (fun X hXl hXd hXn C E I hWT => ?_)
  subst hXl hXd hXn
  refine j_aload_n C d_Orders_queued_0 rfl ?_
  refine j_iload_n C d_Orders_queued_1 rfl ?_
  refine j_callVi C [.int x] d_Orders_queued_2 ml_Orders_28 mv_Orders_isItem k_Orders_isItem ⟨_, _, rfl⟩ (by assumption) (c_Orders_isItem _ _ _ ha hia x) (by decide) (by decide) rfl (Nat.le_of_ble_eq_true rfl) (Nat.le_of_ble_eq_true rfl) rfl (by simp [cat_rf, cat_int]) ?_
  refine j_if_eq (tgt := 29) C d_Orders_queued_5 (by decide) (fun c5 => ?_) (fun c5 => ?_)
  · skip
    rw [bI_0] at c5
    refine j_null C d_Orders_queued_29 ?_
    refine j_aret C E d_Orders_queued_30 ?_
    refine ⟨?_, rfl, rfl, rfl⟩
    first | (simp [qF, c5, c17]; done) | simp [qF, c5]
  · skip
    rw [bI_0, Bool.not_eq_false] at c5
    obtain ⟨hx1, hx2⟩ := itemF_spec c5
    refine j_aload_n C d_Orders_queued_8 rfl ?_
    refine j_gets C d_Orders_queued_9 fl_Orders_9 cl_Orders rfl (by assumption) rfl hia (fun t9 => ?_)
    refine j_iload_n C d_Orders_queued_12 rfl ?_
    refine j_aalds C x.toNatClampNeg d_Orders_queued_13 (by assumption) (by decide) hx2 hx1 (by decide) (hit _ hx1) (fun t13 => ?_)
    refine j_geti C d_Orders_queued_14 fl_Orders_32 cl_Item (by assumption) rfl ?_
    refine j_if_eq (tgt := 29) C d_Orders_queued_17 (by decide) (fun c17 => ?_) (fun c17 => ?_)
    · skip
      refine j_null C d_Orders_queued_29 ?_
      refine j_aret C E d_Orders_queued_30 ?_
      refine ⟨?_, rfl, rfl, rfl⟩
      first | (simp [qF, c5, c17]; done) | simp [qF, c5]
    · skip
      refine j_aload_n C d_Orders_queued_20 rfl ?_
      refine j_gets C d_Orders_queued_21 fl_Orders_9 cl_Orders rfl (by assumption) rfl hia (fun t21 => ?_)
      refine j_iload_n C d_Orders_queued_24 rfl ?_
      refine j_aalds C x.toNatClampNeg d_Orders_queued_25 (by assumption) (by decide) hx2 hx1 (by decide) (hit _ hx1) (fun t25 => ?_)
      refine j_goto (tgt := 30) C d_Orders_queued_26 (by decide) ?_
      refine j_aret C E d_Orders_queued_30 ?_
      refine ⟨?_, rfl, rfl, rfl⟩
      first | (simp [qF, c5, c17]; done) | simp [qF, c5]

set_option maxHeartbeats 4000000 in
set_option maxRecDepth 100000 in
/-- Orders.heads(a) -/
theorem c_Orders_heads (l : Launch) (D : jD) (N0 : Nat) {tt : jT} {mi : jI} {mr : jR} {o a M cnt : Nat} {ms : List Nat} (ho : tt o = some (.inl 4)) (ha : tt a = some (.inl 0)) (hsz : mi a 2 = nI cnt) (hc : cnt ≤ 8) (hM : mr a 1 = some M) (hms : rowM mr M ms) : Ct l D N0 0 0 0 y_Orders_heads b_Orders_heads 4 (some .boolean) [va_rf (some o), va_rf (some a)] tt mi mr (pI (bI ((ms.take cnt).all (fun m => (mr m 3).isNone))) tt mi mr) := by
  refine Ct.of "OrderDesk$Orders" (by decide +kernel) rfl (by simp [cat_rf, cat_int]) (Nat.le_of_ble_eq_true rfl) (fun X hXl hXd hXn C E I hWT => ?_)
  subst hXl hXd hXn
  refine j_iconst (v := 1) C d_Orders_heads_0 (by decide) ?_
  refine j_istore_n C d_Orders_heads_1 (Nat.le_of_ble_eq_true rfl) ?_
  refine j_iconst (v := 0) C d_Orders_heads_2 (by decide) ?_
  refine j_istore_n C d_Orders_heads_3 (Nat.le_of_ble_eq_true rfl) ?_
  have loop : ∀ (n k : Nat) (b : Bool), k ≤ cnt → cnt < k + n → (ms.take cnt).all (fun m => (mr m 3).isNone) = (b && ((ms.take cnt).drop k).all (fun m => (mr m 3).isNone)) → J X tt mi mr 0 0 4 [some (va_rf (some o)), some (va_rf (some a)), some (.int (bI b)), some (.int (nI k))] [] := by
    intro n
    induction n with
    | zero => intro k b h1 h2; exact absurd h2 (by omega)
    | succ n ih =>
      intro k b hk hn hinv
      refine j_iload_n C d_Orders_heads_4 rfl ?_
      refine j_aload_n C d_Orders_heads_5 rfl ?_
      refine j_geti C d_Orders_heads_6 fl_Orders_63 cl_Item (by assumption) rfl ?_
      refine j_icmp_ge (tgt := 40) C d_Orders_heads_9 (by decide) (fun c9 => ?_) (fun c9 => ?_)
      · skip
        rw [hsz, nI_leI (by omega) (by omega)] at c9
        rw [List.drop_eq_nil_of_le (by rw [List.length_take]; omega)] at hinv
        refine j_iload_n C d_Orders_heads_40 rfl ?_
        refine j_iret C E rfl (by first | rfl | exact nar_bI _) d_Orders_heads_41 ?_
        exact ⟨by rw [hinv]; simp, rfl, rfl, rfl⟩
      · skip
        rw [hsz, nI_leI (by omega) (by omega)] at c9
        obtain ⟨m, hm⟩ := getE (ms := ms) (k := k) (by rw [hms.1]; omega)
        rw [drop_take_cons (by omega) hm, List.all_cons] at hinv
        refine j_iload_n C d_Orders_heads_12 rfl ?_
        refine j_if_eq (tgt := 32) C d_Orders_heads_13 (by decide) (fun c13 => ?_) (fun c13 => ?_)
        · skip
          rw [bI_0] at c13
          subst c13
          refine j_iconst (v := 0) C d_Orders_heads_32 (by decide) ?_
          refine j_istore_n C d_Orders_heads_33 (Nat.le_of_ble_eq_true rfl) ?_
          refine j_iinc C d_Orders_heads_34 rfl (nI_1 k) ?_
          refine j_goto (tgt := 4) C d_Orders_heads_37 (by decide) ?_
          first | (refine ih (k + 1) true (by omega) (by omega) ?_; simpa [h22] using hinv) | (refine ih (k + 1) false (by omega) (by omega) ?_; simpa [h22] using hinv) | (refine ih (k + 1) false (by omega) (by omega) ?_; simpa using hinv)
        · skip
          rw [bI_0, Bool.not_eq_false] at c13
          subst c13
          refine j_aload_n C d_Orders_heads_16 rfl ?_
          refine j_gets C d_Orders_heads_17 fl_Orders_66 cl_Item rfl (by assumption) rfl hM (fun t17 => ?_)
          refine j_iload_n C d_Orders_heads_20 rfl ?_
          refine j_aalds C k d_Orders_heads_21 (by assumption) (by decide) rfl (by omega) (by decide) ((hms.2 k (by omega)).trans hm) (fun t21 => ?_)
          refine j_getr C d_Orders_heads_22 fl_Orders_104 cl_Member rfl (by assumption) rfl (fun r22 h22 t22 => ?_)
          refine j_ifnonnull (tgt := 32) C d_Orders_heads_25 (by decide) (fun b25 e25 => ?_) (fun e25 => ?_)
          · first | subst e25 | skip
            refine j_iconst (v := 0) C d_Orders_heads_32 (by decide) ?_
            refine j_istore_n C d_Orders_heads_33 (Nat.le_of_ble_eq_true rfl) ?_
            refine j_iinc C d_Orders_heads_34 rfl (nI_1 k) ?_
            refine j_goto (tgt := 4) C d_Orders_heads_37 (by decide) ?_
            first | (refine ih (k + 1) true (by omega) (by omega) ?_; simpa [h22] using hinv) | (refine ih (k + 1) false (by omega) (by omega) ?_; simpa [h22] using hinv) | (refine ih (k + 1) false (by omega) (by omega) ?_; simpa using hinv)
          · first | subst e25 | skip
            refine j_iconst (v := 1) C d_Orders_heads_28 (by decide) ?_
            refine j_goto (tgt := 33) C d_Orders_heads_29 (by decide) ?_
            refine j_istore_n C d_Orders_heads_33 (Nat.le_of_ble_eq_true rfl) ?_
            refine j_iinc C d_Orders_heads_34 rfl (nI_1 k) ?_
            refine j_goto (tgt := 4) C d_Orders_heads_37 (by decide) ?_
            first | (refine ih (k + 1) true (by omega) (by omega) ?_; simpa [h22] using hinv) | (refine ih (k + 1) false (by omega) (by omega) ?_; simpa [h22] using hinv) | (refine ih (k + 1) false (by omega) (by omega) ?_; simpa using hinv)
  exact loop (cnt + 1) 0 true (by omega) (by omega) (by simp)
end
section
/-! Line.insert -/
abbrev bef (mi : jI) (a b : Nat) : Bool := befF (mi a 3) (mi a 4) (mi b 3) (mi b 4)
theorem gl_nil {P S : List Nat} (h : (P ++ S).getLast? = none) : P = [] ∧ S = [] := by
  have := List.getLast?_eq_none_iff.mp h
  exact List.append_eq_nil_iff.mp this

set_option maxHeartbeats 4000000 in
set_option maxRecDepth 100000 in
/-- Line.insert(m): between P and S -/
theorem c_Line_insert (l : Launch) (D : jD) (N0 : Nat) {tt : jT} {mi : jI} {mr : jR} {l0 m : Nat} {io : Nat → Nat} {P S : List Nat} (hl : tt l0 = some (.inl 2)) (hm : tt m = some (.inl 1)) (him : mr m 0 = some (io m)) (hlast : mr l0 3 = (P ++ S).getLast?) (htP : ∀ x ∈ P ++ S, tt x = some (.inl 1)) (hio : ∀ x ∈ P ++ S, mr x 0 = some (io x)) (hah : ∀ A x B, P ++ S = A ++ x :: B → mr x 3 = A.getLast?) (hf0 : P.getLast? = none → mr l0 2 = S.head?) (hf1 : ∀ x, P.getLast? = some x → mr x 4 = S.head?) (hmP : P.getLast? ≠ some m) (hS : ∀ x ∈ S, bef mi (io m) (io x) = true) (hP : ∀ x, P.getLast? = some x → bef mi (io m) (io x) = false) : Ct l D N0 1 0 0 y_Line_insert b_Line_insert 3 none [va_rf (some l0), va_rf (some m)] tt mi mr (pV tt (up2 mi l0 1 (mi l0 1 + 1)) (lnkI (up2 mr m 2 (some l0)) l0 2 3 3 4 m P.getLast? S.head?)) := by
  refine Ct.of "OrderDesk$Line" (by decide +kernel) rfl (by simp [cat_rf, cat_int]) (Nat.le_of_ble_eq_true rfl) (fun X hXl hXd hXn C E I hWT => ?_)
  subst hXl hXd hXn
  have hne : l0 ≠ m := fun e => by rw [e, hm] at hl; cases hl
  have tim : tt (io m) = some (.inl 0) := hWT m _ 0 _ _ hm rfl him
  have tail : J X tt mi mr 0 0 31 [some (va_rf (some l0)), some (va_rf (some m)), some (va_rf P.getLast?)] [] := by
    rcases hpa : P.getLast? with _ | x
    · rcases hsf : S.head? with _ | y
      · skip
        refine j_aload_n C d_Line_insert_31 rfl ?_
        refine j_aload_n C d_Line_insert_32 rfl ?_
        refine j_putr C d_Line_insert_33 fl_Line_28 cl_Member (fun C T N h => by cases h; exact Or.inl rfl) rfl (by assumption) (by first | assumption | (intro b hb; cases hb; assumption) | (intro b hb; cases hb)) (fun f g => ⟨rfl, Nat.le_of_ble_eq_true rfl⟩) rfl (fun mr33 hr33 => ?_)
        refine j_aload_n C d_Line_insert_36 rfl ?_
        refine j_aload_n C d_Line_insert_37 rfl ?_
        refine j_putr C d_Line_insert_38 fl_Line_25 cl_Member (fun C T N h => by cases h; exact Or.inl rfl) rfl (by assumption) (by intro b hb; first | (cases hb; assumption) | cases hb) (fun f g => ⟨rfl, Nat.le_of_ble_eq_true rfl⟩) rfl (fun mr38 hr38 => ?_)
        refine j_aload_n C d_Line_insert_41 rfl ?_
        refine j_aload_n C d_Line_insert_42 rfl ?_
        refine j_ifnonnull_n (tgt := 53) C d_Line_insert_43 (by decide) ?_
        refine j_aload_n C d_Line_insert_46 rfl ?_
        refine j_getk (r := none) C d_Line_insert_47 fl_Line_32 cl_Line rfl (by assumption) rfl (by rw [hr38, up2_ap, if_neg (fun z => hne z.1), hr33, up2_ap, if_neg (fun z => hne z.1)]; exact (hf0 hpa).trans hsf) (fun t47 => ?_)
        refine j_goto (tgt := 57) C d_Line_insert_50 (by decide) ?_
        refine j_putr C d_Line_insert_57 fl_Line_35 cl_Member (fun C T N h => by cases h; exact Or.inl rfl) rfl (by assumption) (by intro b hb; first | (cases hb; assumption) | cases hb) (fun f g => ⟨rfl, Nat.le_of_ble_eq_true rfl⟩) rfl (fun mr57 hr57 => ?_)
        refine j_aload_n C d_Line_insert_60 rfl ?_
        refine j_getk (r := none) C d_Line_insert_61 fl_Line_25 cl_Member rfl (by assumption) rfl (by rw [hr57, up2_ap, if_neg (by simp), hr38, up2_ap, if_pos ⟨rfl, rfl⟩]) (fun t61 => ?_)
        refine j_ifnonnull_n (tgt := 75) C d_Line_insert_64 (by decide) ?_
        refine j_aload_n C d_Line_insert_67 rfl ?_
        refine j_aload_n C d_Line_insert_68 rfl ?_
        refine j_putr C d_Line_insert_69 fl_Line_32 cl_Line (fun C T N h => by cases h; exact Or.inl rfl) rfl (by assumption) (by first | assumption | (intro b hb; cases hb; assumption) | (intro b hb; cases hb)) (fun f g => ⟨rfl, Nat.le_of_ble_eq_true rfl⟩) rfl (fun mr69 hr69 => ?_)
        refine j_goto (tgt := 83) C d_Line_insert_72 (by decide) ?_
        refine j_aload_n C d_Line_insert_83 rfl ?_
        refine j_getk (r := none) C d_Line_insert_84 fl_Line_35 cl_Member rfl (by assumption) rfl (by rw [hr69, up2_ap, if_neg (fun z => hne z.1.symm), hr57, up2_ap, if_pos ⟨rfl, rfl⟩]) (fun t84 => ?_)
        refine j_ifnonnull_n (tgt := 98) C d_Line_insert_87 (by decide) ?_
        refine j_aload_n C d_Line_insert_90 rfl ?_
        refine j_aload_n C d_Line_insert_91 rfl ?_
        refine j_putr C d_Line_insert_92 fl_Line_7 cl_Line (fun C T N h => by cases h; exact Or.inl rfl) rfl (by assumption) (by first | assumption | (intro b hb; cases hb; assumption) | (intro b hb; cases hb)) (fun f g => ⟨rfl, Nat.le_of_ble_eq_true rfl⟩) rfl (fun mr92 hr92 => ?_)
        refine j_goto (tgt := 106) C d_Line_insert_95 (by decide) ?_
        refine j_aload_n C d_Line_insert_106 rfl ?_
        refine j_dup C d_Line_insert_107 (by first | rfl | exact cat_rf _) ?_
        refine j_geti C d_Line_insert_108 fl_Line_38 cl_Line (by assumption) rfl ?_
        refine j_iconst (v := 1) C d_Line_insert_111 (by decide) ?_
        refine j_iadd C d_Line_insert_112 ?_
        refine j_puti C d_Line_insert_113 fl_Line_38 cl_Line (fun C T N h => by cases h; exact Or.inl rfl) (by assumption) (fun f g => ⟨rfl, Nat.le_of_ble_eq_true rfl⟩) rfl rfl (fun mi113 hm113 => ?_)
        refine j_vret C E d_Line_insert_116 ?_
        subst hm113 hr92 hr69 hr57 hr38 hr33
        exact ⟨rfl, rfl, rfl, by rw [hpa, hsf]; rfl⟩
      · skip
        have ty : tt y = some (.inl 1) := htP y (List.mem_append_right _ (List.mem_of_head? hsf))
        refine j_aload_n C d_Line_insert_31 rfl ?_
        refine j_aload_n C d_Line_insert_32 rfl ?_
        refine j_putr C d_Line_insert_33 fl_Line_28 cl_Member (fun C T N h => by cases h; exact Or.inl rfl) rfl (by assumption) (by first | assumption | (intro b hb; cases hb; assumption) | (intro b hb; cases hb)) (fun f g => ⟨rfl, Nat.le_of_ble_eq_true rfl⟩) rfl (fun mr33 hr33 => ?_)
        refine j_aload_n C d_Line_insert_36 rfl ?_
        refine j_aload_n C d_Line_insert_37 rfl ?_
        refine j_putr C d_Line_insert_38 fl_Line_25 cl_Member (fun C T N h => by cases h; exact Or.inl rfl) rfl (by assumption) (by intro b hb; first | (cases hb; assumption) | cases hb) (fun f g => ⟨rfl, Nat.le_of_ble_eq_true rfl⟩) rfl (fun mr38 hr38 => ?_)
        refine j_aload_n C d_Line_insert_41 rfl ?_
        refine j_aload_n C d_Line_insert_42 rfl ?_
        refine j_ifnonnull_n (tgt := 53) C d_Line_insert_43 (by decide) ?_
        refine j_aload_n C d_Line_insert_46 rfl ?_
        refine j_getk (r := (some y)) C d_Line_insert_47 fl_Line_32 cl_Line rfl (by assumption) rfl (by rw [hr38, up2_ap, if_neg (fun z => hne z.1), hr33, up2_ap, if_neg (fun z => hne z.1)]; exact (hf0 hpa).trans hsf) (fun t47 => ?_)
        refine j_goto (tgt := 57) C d_Line_insert_50 (by decide) ?_
        refine j_putr C d_Line_insert_57 fl_Line_35 cl_Member (fun C T N h => by cases h; exact Or.inl rfl) rfl (by assumption) (by intro b hb; first | (cases hb; assumption) | cases hb) (fun f g => ⟨rfl, Nat.le_of_ble_eq_true rfl⟩) rfl (fun mr57 hr57 => ?_)
        refine j_aload_n C d_Line_insert_60 rfl ?_
        refine j_getk (r := none) C d_Line_insert_61 fl_Line_25 cl_Member rfl (by assumption) rfl (by rw [hr57, up2_ap, if_neg (by simp), hr38, up2_ap, if_pos ⟨rfl, rfl⟩]) (fun t61 => ?_)
        refine j_ifnonnull_n (tgt := 75) C d_Line_insert_64 (by decide) ?_
        refine j_aload_n C d_Line_insert_67 rfl ?_
        refine j_aload_n C d_Line_insert_68 rfl ?_
        refine j_putr C d_Line_insert_69 fl_Line_32 cl_Line (fun C T N h => by cases h; exact Or.inl rfl) rfl (by assumption) (by first | assumption | (intro b hb; cases hb; assumption) | (intro b hb; cases hb)) (fun f g => ⟨rfl, Nat.le_of_ble_eq_true rfl⟩) rfl (fun mr69 hr69 => ?_)
        refine j_goto (tgt := 83) C d_Line_insert_72 (by decide) ?_
        refine j_aload_n C d_Line_insert_83 rfl ?_
        refine j_getk (r := (some y)) C d_Line_insert_84 fl_Line_35 cl_Member rfl (by assumption) rfl (by rw [hr69, up2_ap, if_neg (fun z => hne z.1.symm), hr57, up2_ap, if_pos ⟨rfl, rfl⟩]) (fun t84 => ?_)
        refine j_ifnonnull_s (tgt := 98) C d_Line_insert_87 (by decide) ?_
        refine j_aload_n C d_Line_insert_98 rfl ?_
        refine j_getk (r := (some y)) C d_Line_insert_99 fl_Line_35 cl_Member rfl (by assumption) rfl (by rw [hr69, up2_ap, if_neg (fun z => hne z.1.symm), hr57, up2_ap, if_pos ⟨rfl, rfl⟩]) (fun t99 => ?_)
        refine j_aload_n C d_Line_insert_102 rfl ?_
        refine j_putr C d_Line_insert_103 fl_Line_25 cl_Member (fun C T N h => by cases h; exact Or.inl rfl) rfl (by assumption) (by first | assumption | (intro b hb; cases hb; assumption) | (intro b hb; cases hb)) (fun f g => ⟨rfl, Nat.le_of_ble_eq_true rfl⟩) rfl (fun mr103 hr103 => ?_)
        refine j_aload_n C d_Line_insert_106 rfl ?_
        refine j_dup C d_Line_insert_107 (by first | rfl | exact cat_rf _) ?_
        refine j_geti C d_Line_insert_108 fl_Line_38 cl_Line (by assumption) rfl ?_
        refine j_iconst (v := 1) C d_Line_insert_111 (by decide) ?_
        refine j_iadd C d_Line_insert_112 ?_
        refine j_puti C d_Line_insert_113 fl_Line_38 cl_Line (fun C T N h => by cases h; exact Or.inl rfl) (by assumption) (fun f g => ⟨rfl, Nat.le_of_ble_eq_true rfl⟩) rfl rfl (fun mi113 hm113 => ?_)
        refine j_vret C E d_Line_insert_116 ?_
        subst hm113 hr103 hr69 hr57 hr38 hr33
        exact ⟨rfl, rfl, rfl, by rw [hpa, hsf]; rfl⟩
    · rcases hsf : S.head? with _ | y
      · skip
        have hxm : x ≠ m := fun e => hmP (by rw [hpa, e])
        have tx : tt x = some (.inl 1) := htP x (List.mem_append_left _ (List.mem_of_getLast? hpa))
        refine j_aload_n C d_Line_insert_31 rfl ?_
        refine j_aload_n C d_Line_insert_32 rfl ?_
        refine j_putr C d_Line_insert_33 fl_Line_28 cl_Member (fun C T N h => by cases h; exact Or.inl rfl) rfl (by assumption) (by first | assumption | (intro b hb; cases hb; assumption) | (intro b hb; cases hb)) (fun f g => ⟨rfl, Nat.le_of_ble_eq_true rfl⟩) rfl (fun mr33 hr33 => ?_)
        refine j_aload_n C d_Line_insert_36 rfl ?_
        refine j_aload_n C d_Line_insert_37 rfl ?_
        refine j_putr C d_Line_insert_38 fl_Line_25 cl_Member (fun C T N h => by cases h; exact Or.inl rfl) rfl (by assumption) (by intro b hb; first | (cases hb; assumption) | cases hb) (fun f g => ⟨rfl, Nat.le_of_ble_eq_true rfl⟩) rfl (fun mr38 hr38 => ?_)
        refine j_aload_n C d_Line_insert_41 rfl ?_
        refine j_aload_n C d_Line_insert_42 rfl ?_
        refine j_ifnonnull_s (tgt := 53) C d_Line_insert_43 (by decide) ?_
        refine j_aload_n C d_Line_insert_53 rfl ?_
        refine j_getk (r := none) C d_Line_insert_54 fl_Line_35 cl_Member rfl (by assumption) rfl (by rw [hr38, up2_ap, if_neg (by simp), hr33, up2_ap, if_neg (by simp)]; exact (hf1 x hpa).trans hsf) (fun t54 => ?_)
        refine j_putr C d_Line_insert_57 fl_Line_35 cl_Member (fun C T N h => by cases h; exact Or.inl rfl) rfl (by assumption) (by intro b hb; first | (cases hb; assumption) | cases hb) (fun f g => ⟨rfl, Nat.le_of_ble_eq_true rfl⟩) rfl (fun mr57 hr57 => ?_)
        refine j_aload_n C d_Line_insert_60 rfl ?_
        refine j_getk (r := (some x)) C d_Line_insert_61 fl_Line_25 cl_Member rfl (by assumption) rfl (by rw [hr57, up2_ap, if_neg (by simp), hr38, up2_ap, if_pos ⟨rfl, rfl⟩]) (fun t61 => ?_)
        refine j_ifnonnull_s (tgt := 75) C d_Line_insert_64 (by decide) ?_
        refine j_aload_n C d_Line_insert_75 rfl ?_
        refine j_getk (r := (some x)) C d_Line_insert_76 fl_Line_25 cl_Member rfl (by assumption) rfl (by rw [hr57, up2_ap, if_neg (by simp), hr38, up2_ap, if_pos ⟨rfl, rfl⟩]) (fun t76 => ?_)
        refine j_aload_n C d_Line_insert_79 rfl ?_
        refine j_putr C d_Line_insert_80 fl_Line_35 cl_Member (fun C T N h => by cases h; exact Or.inl rfl) rfl (by assumption) (by first | assumption | (intro b hb; cases hb; assumption) | (intro b hb; cases hb)) (fun f g => ⟨rfl, Nat.le_of_ble_eq_true rfl⟩) rfl (fun mr80 hr80 => ?_)
        refine j_aload_n C d_Line_insert_83 rfl ?_
        refine j_getk (r := none) C d_Line_insert_84 fl_Line_35 cl_Member rfl (by assumption) rfl (by rw [hr80, up2_ap, if_neg (fun z => hxm z.1.symm), hr57, up2_ap, if_pos ⟨rfl, rfl⟩]) (fun t84 => ?_)
        refine j_ifnonnull_n (tgt := 98) C d_Line_insert_87 (by decide) ?_
        refine j_aload_n C d_Line_insert_90 rfl ?_
        refine j_aload_n C d_Line_insert_91 rfl ?_
        refine j_putr C d_Line_insert_92 fl_Line_7 cl_Line (fun C T N h => by cases h; exact Or.inl rfl) rfl (by assumption) (by first | assumption | (intro b hb; cases hb; assumption) | (intro b hb; cases hb)) (fun f g => ⟨rfl, Nat.le_of_ble_eq_true rfl⟩) rfl (fun mr92 hr92 => ?_)
        refine j_goto (tgt := 106) C d_Line_insert_95 (by decide) ?_
        refine j_aload_n C d_Line_insert_106 rfl ?_
        refine j_dup C d_Line_insert_107 (by first | rfl | exact cat_rf _) ?_
        refine j_geti C d_Line_insert_108 fl_Line_38 cl_Line (by assumption) rfl ?_
        refine j_iconst (v := 1) C d_Line_insert_111 (by decide) ?_
        refine j_iadd C d_Line_insert_112 ?_
        refine j_puti C d_Line_insert_113 fl_Line_38 cl_Line (fun C T N h => by cases h; exact Or.inl rfl) (by assumption) (fun f g => ⟨rfl, Nat.le_of_ble_eq_true rfl⟩) rfl rfl (fun mi113 hm113 => ?_)
        refine j_vret C E d_Line_insert_116 ?_
        subst hm113 hr92 hr80 hr57 hr38 hr33
        exact ⟨rfl, rfl, rfl, by rw [hpa, hsf]; rfl⟩
      · skip
        have hxm : x ≠ m := fun e => hmP (by rw [hpa, e])
        have tx : tt x = some (.inl 1) := htP x (List.mem_append_left _ (List.mem_of_getLast? hpa))
        have ty : tt y = some (.inl 1) := htP y (List.mem_append_right _ (List.mem_of_head? hsf))
        refine j_aload_n C d_Line_insert_31 rfl ?_
        refine j_aload_n C d_Line_insert_32 rfl ?_
        refine j_putr C d_Line_insert_33 fl_Line_28 cl_Member (fun C T N h => by cases h; exact Or.inl rfl) rfl (by assumption) (by first | assumption | (intro b hb; cases hb; assumption) | (intro b hb; cases hb)) (fun f g => ⟨rfl, Nat.le_of_ble_eq_true rfl⟩) rfl (fun mr33 hr33 => ?_)
        refine j_aload_n C d_Line_insert_36 rfl ?_
        refine j_aload_n C d_Line_insert_37 rfl ?_
        refine j_putr C d_Line_insert_38 fl_Line_25 cl_Member (fun C T N h => by cases h; exact Or.inl rfl) rfl (by assumption) (by intro b hb; first | (cases hb; assumption) | cases hb) (fun f g => ⟨rfl, Nat.le_of_ble_eq_true rfl⟩) rfl (fun mr38 hr38 => ?_)
        refine j_aload_n C d_Line_insert_41 rfl ?_
        refine j_aload_n C d_Line_insert_42 rfl ?_
        refine j_ifnonnull_s (tgt := 53) C d_Line_insert_43 (by decide) ?_
        refine j_aload_n C d_Line_insert_53 rfl ?_
        refine j_getk (r := (some y)) C d_Line_insert_54 fl_Line_35 cl_Member rfl (by assumption) rfl (by rw [hr38, up2_ap, if_neg (by simp), hr33, up2_ap, if_neg (by simp)]; exact (hf1 x hpa).trans hsf) (fun t54 => ?_)
        refine j_putr C d_Line_insert_57 fl_Line_35 cl_Member (fun C T N h => by cases h; exact Or.inl rfl) rfl (by assumption) (by intro b hb; first | (cases hb; assumption) | cases hb) (fun f g => ⟨rfl, Nat.le_of_ble_eq_true rfl⟩) rfl (fun mr57 hr57 => ?_)
        refine j_aload_n C d_Line_insert_60 rfl ?_
        refine j_getk (r := (some x)) C d_Line_insert_61 fl_Line_25 cl_Member rfl (by assumption) rfl (by rw [hr57, up2_ap, if_neg (by simp), hr38, up2_ap, if_pos ⟨rfl, rfl⟩]) (fun t61 => ?_)
        refine j_ifnonnull_s (tgt := 75) C d_Line_insert_64 (by decide) ?_
        refine j_aload_n C d_Line_insert_75 rfl ?_
        refine j_getk (r := (some x)) C d_Line_insert_76 fl_Line_25 cl_Member rfl (by assumption) rfl (by rw [hr57, up2_ap, if_neg (by simp), hr38, up2_ap, if_pos ⟨rfl, rfl⟩]) (fun t76 => ?_)
        refine j_aload_n C d_Line_insert_79 rfl ?_
        refine j_putr C d_Line_insert_80 fl_Line_35 cl_Member (fun C T N h => by cases h; exact Or.inl rfl) rfl (by assumption) (by first | assumption | (intro b hb; cases hb; assumption) | (intro b hb; cases hb)) (fun f g => ⟨rfl, Nat.le_of_ble_eq_true rfl⟩) rfl (fun mr80 hr80 => ?_)
        refine j_aload_n C d_Line_insert_83 rfl ?_
        refine j_getk (r := (some y)) C d_Line_insert_84 fl_Line_35 cl_Member rfl (by assumption) rfl (by rw [hr80, up2_ap, if_neg (fun z => hxm z.1.symm), hr57, up2_ap, if_pos ⟨rfl, rfl⟩]) (fun t84 => ?_)
        refine j_ifnonnull_s (tgt := 98) C d_Line_insert_87 (by decide) ?_
        refine j_aload_n C d_Line_insert_98 rfl ?_
        refine j_getk (r := (some y)) C d_Line_insert_99 fl_Line_35 cl_Member rfl (by assumption) rfl (by rw [hr80, up2_ap, if_neg (fun z => hxm z.1.symm), hr57, up2_ap, if_pos ⟨rfl, rfl⟩]) (fun t99 => ?_)
        refine j_aload_n C d_Line_insert_102 rfl ?_
        refine j_putr C d_Line_insert_103 fl_Line_25 cl_Member (fun C T N h => by cases h; exact Or.inl rfl) rfl (by assumption) (by first | assumption | (intro b hb; cases hb; assumption) | (intro b hb; cases hb)) (fun f g => ⟨rfl, Nat.le_of_ble_eq_true rfl⟩) rfl (fun mr103 hr103 => ?_)
        refine j_aload_n C d_Line_insert_106 rfl ?_
        refine j_dup C d_Line_insert_107 (by first | rfl | exact cat_rf _) ?_
        refine j_geti C d_Line_insert_108 fl_Line_38 cl_Line (by assumption) rfl ?_
        refine j_iconst (v := 1) C d_Line_insert_111 (by decide) ?_
        refine j_iadd C d_Line_insert_112 ?_
        refine j_puti C d_Line_insert_113 fl_Line_38 cl_Line (fun C T N h => by cases h; exact Or.inl rfl) (by assumption) (fun f g => ⟨rfl, Nat.le_of_ble_eq_true rfl⟩) rfl rfl (fun mi113 hm113 => ?_)
        refine j_vret C E d_Line_insert_116 ?_
        subst hm113 hr103 hr80 hr57 hr38 hr33
        exact ⟨rfl, rfl, rfl, by rw [hpa, hsf]; rfl⟩
  have loop : ∀ (n : Nat) (S1 S2 : List Nat), S1.length < n → S = S1 ++ S2 → J X tt mi mr 0 0 5 [some (va_rf (some l0)), some (va_rf (some m)), some (va_rf (P ++ S1).getLast?)] [] := by
    intro n
    induction n with
    | zero => intro S1 S2 h; exact absurd h (by omega)
    | succ n ih =>
      intro S1 S2 hn hS1
      generalize hr : (P ++ S1).getLast? = r
      refine j_aload_n C d_Line_insert_5 rfl ?_
      refine j_ifnull (tgt := 31) C d_Line_insert_6 (by decide) (fun e6 => ?_) (fun b6 e6 => ?_)
      · first | subst e6 | skip
        obtain ⟨e1, e2⟩ := gl_nil hr
        rw [e1] at tail
        exact tail
      · first | subst e6 | skip
        have hbm : b6 ∈ P ++ S1 := List.mem_of_getLast? hr
        have hbm2 : b6 ∈ P ++ S := by rw [hS1, ← List.append_assoc]; exact List.mem_append_left _ hbm
        have tb := htP b6 hbm2
        have tib : tt (io b6) = some (.inl 0) := hWT b6 _ 0 _ _ tb rfl (hio b6 hbm2)
        refine j_aload_n C d_Line_insert_9 rfl ?_
        refine j_gets C d_Line_insert_10 fl_Line_13 cl_Member rfl (by assumption) rfl him (fun t10 => ?_)
        refine j_aload_n C d_Line_insert_13 rfl ?_
        refine j_gets C d_Line_insert_14 fl_Line_13 cl_Member rfl (by assumption) rfl (hio b6 hbm2) (fun t14 => ?_)
        refine j_callVi C [va_rf (some (io b6))] d_Line_insert_17 ml_Line_19 mv_Item_isBefore k_Item_isBefore ⟨_, _, rfl⟩ tim (c_Item_isBefore _ _ _ tim tib) (by decide) (by decide) rfl (Nat.le_of_ble_eq_true rfl) (Nat.le_of_ble_eq_true rfl) rfl (by simp [cat_rf, cat_int]) ?_
        refine j_if_eq (tgt := 31) C d_Line_insert_20 (by decide) (fun c20 => ?_) (fun c20 => ?_)
        · skip
          rw [bI_0] at c20
          rcases List.eq_nil_or_concat S1 with e1 | ⟨L, c, e1⟩
          · rw [e1, List.append_nil] at hr
            rw [hr] at tail
            exact tail
          · rw [List.concat_eq_append] at e1
            rw [e1, ← List.append_assoc, List.getLast?_concat] at hr
            cases hr
            exact absurd ((hS b6 (by rw [hS1, e1]; simp)).symm.trans c20) (by decide)
        · skip
          rw [bI_0, Bool.not_eq_false] at c20
          rcases List.eq_nil_or_concat S1 with e1 | ⟨L, c, e1⟩
          · rw [e1, List.append_nil] at hr
            exact absurd ((hP b6 hr).symm.trans c20) (by decide)
          rw [List.concat_eq_append] at e1
          rw [e1, ← List.append_assoc, List.getLast?_concat] at hr
          cases hr
          refine j_aload_n C d_Line_insert_23 rfl ?_
          refine j_getk (r := (P ++ L).getLast?) C d_Line_insert_24 fl_Line_25 cl_Member rfl (by assumption) rfl (hah (P ++ L) b6 S2 (by rw [hS1, e1]; simp)) (fun t24 => ?_)
          refine j_astore_n C d_Line_insert_27 (Nat.le_of_ble_eq_true rfl) ?_
          refine j_goto (tgt := 5) C d_Line_insert_28 (by decide) ?_
          exact ih L (b6 :: S2) (by rw [e1] at hn; simp at hn; omega) (by rw [hS1, e1]; simp)
  refine j_aload_n C d_Line_insert_0 rfl ?_
  refine j_getk (r := (P ++ S).getLast?) C d_Line_insert_1 fl_Line_7 cl_Line rfl (by assumption) rfl hlast (fun t1 => ?_)
  refine j_astore_n C d_Line_insert_4 (Nat.le_of_ble_eq_true rfl) ?_
  exact loop (S.length + 1) S [] (by omega) (by simp)
end
section
/-! PLAIN LAWS 1: a contract's end may be weakened; lists with links ahead and behind; the order of items -/
theorem Ct.imp {l : Launch} {D : jD} {N0 lev mc ms : Nat} {y : MethodName} {cc : ByteArray} {n : Nat} {ret : Option FieldType} {av : List Value} {tt : jT} {mi : jI} {mr : jR} {Post Post' : jPost} (h : Ct l D N0 lev mc ms y cc n ret av tt mi mr Post) (hi : ∀ v t i r, jWT t r → Post v t i r → Post' v t i r) : Ct l D N0 lev mc ms y cc n ret av tt mi mr Post' := by
  intro p e ha hc hk s m args below hf happ hP hK
  obtain ⟨t, o, h1, h2, h3, ⟨⟨⟨v, tt', mi', mr', e1, e2, e3⟩, hF⟩, hL⟩⟩ := h p e ha hc hk s m args below hf happ hP hK
  exact ⟨t, o, h1, h2, h3, ⟨⟨⟨v, tt', mi', mr', e1, hi _ _ _ _ e3.2.2 e2, e3⟩, hF⟩, hL⟩⟩
/-- each cell's links are its neighbours in the list -/
def DL (ah af : Nat → Option Nat) (L : List Nat) : Prop := ∀ P x S, L = P ++ x :: S → ah x = P.getLast? ∧ af x = S.head?
theorem DL.congr {ah af ah' af' : Nat → Option Nat} {L : List Nat} (h : DL ah af L) (hc : ∀ x ∈ L, ah' x = ah x ∧ af' x = af x) : DL ah' af' L := by
  intro P x S e
  have h1 := hc x (by rw [e]; simp)
  rw [h1.1, h1.2]
  exact h P x S e
theorem DL_nil {ah af : Nat → Option Nat} : DL ah af [] := fun P x S e => by simp at e
theorem gl_app {A : List Nat} {x : Nat} {B : List Nat} : (A ++ x :: B).getLast? = (x :: B).getLast? := by
  rw [List.getLast?_append]
  cases h : (x :: B).getLast? with
  | none => simp at h
  | some y => rfl
theorem DL.ins {ah af ah' af' : Nat → Option Nat} {P S : List Nat} {m : Nat} (h : DL ah af (P ++ S)) (hn : (P ++ S).Nodup) (h1 : ah' m = P.getLast?) (h2 : af' m = S.head?)
    (h3 : ∀ x ∈ P ++ S, af' x = if P.getLast? = some x then some m else af x) (h4 : ∀ y ∈ P ++ S, ah' y = if S.head? = some y then some m else ah y) : DL ah' af' (P ++ m :: S) := by
  have hd : ∀ x, x ∈ P → x ∈ S → False := fun x hx hy => by
    have := (List.nodup_append.mp hn).2.2
    exact this x hx x hy rfl
  intro P2 x S2 e
  rcases List.append_eq_append_iff.mp e with ⟨T, e1, e2⟩ | ⟨T, e1, e2⟩
  · cases T with
    | nil =>
      rw [List.nil_append] at e2
      cases e2
      rw [List.append_nil] at e1
      rw [e1]
      exact ⟨h1, h2⟩
    | cons t T =>
      rw [List.cons_append] at e2
      cases e2
      have hxS : x ∈ T ++ x :: S2 := by simp
      have h0 := h (P ++ T) x S2 (by simp)
      rw [h3 x (List.mem_append_right _ hxS), h4 x (List.mem_append_right _ hxS)]
      have hp : P.getLast? ≠ some x := fun q => hd x (List.mem_of_getLast? q) hxS
      rw [if_neg hp]
      refine ⟨?_, h0.2⟩
      rw [e1]
      cases T with
      | nil => simp
      | cons z T =>
        have hz : z ≠ x := fun q => by
          have hn2 := (List.nodup_append.mp hn).2.1
          rw [q] at hn2
          simp at hn2
        rw [if_neg (by simpa using hz), h0.1]
        rw [gl_app, gl_app, List.getLast?_cons_cons]
  · cases T with
    | nil =>
      rw [List.nil_append] at e2
      cases e2
      rw [List.append_nil] at e1
      rw [← e1]
      exact ⟨h1, h2⟩
    | cons t T =>
      rw [List.cons_append] at e2
      cases e2
      have hxP : x ∈ P := by rw [e1]; simp
      have h0 := h P2 x (T ++ S) (by rw [e1]; simp)
      rw [h3 x (List.mem_append_left _ hxP), h4 x (List.mem_append_left _ hxP)]
      have hs : S.head? ≠ some x := fun q => hd x hxP (List.mem_of_head? q)
      rw [if_neg hs]
      refine ⟨h0.1, ?_⟩
      cases T with
      | nil =>
        rw [e1]
        simp
      | cons z T =>
        have hz : P.getLast? ≠ some x := fun q => by
          have hn2 := (List.nodup_append.mp hn).1
          rw [e1] at hn2 q
          rw [gl_app, List.getLast?_cons_cons] at q
          have hm := List.mem_of_getLast? q
          have := (List.nodup_append.mp hn2).2.1
          rw [List.nodup_cons] at this
          exact this.1 hm
        rw [if_neg hz, h0.2]
        simp
theorem DL.rem {ah af ah' af' : Nat → Option Nat} {P S : List Nat} {m : Nat} (h : DL ah af (P ++ m :: S)) (hn : (P ++ m :: S).Nodup)
    (h3 : ∀ x ∈ P ++ S, af' x = if P.getLast? = some x then S.head? else af x) (h4 : ∀ y ∈ P ++ S, ah' y = if S.head? = some y then P.getLast? else ah y) : DL ah' af' (P ++ S) := by
  have hd : ∀ x, x ∈ P → x ∈ S → False := fun x hx hy => by
    have := (List.nodup_append.mp hn).2.2
    exact this x hx x (List.mem_cons_of_mem _ hy) rfl
  intro P2 x S2 e
  rcases List.append_eq_append_iff.mp e with ⟨T, e1, e2⟩ | ⟨T, e1, e2⟩
  · have hxS : x ∈ S := by rw [e2]; simp
    have h0 := h (P ++ m :: T) x S2 (by rw [e2]; simp)
    rw [h3 x (List.mem_append_right _ hxS), h4 x (List.mem_append_right _ hxS)]
    have hp : P.getLast? ≠ some x := fun q => hd x (List.mem_of_getLast? q) hxS
    rw [if_neg hp]
    refine ⟨?_, h0.2⟩
    rw [e1]
    cases T with
    | nil =>
      rw [e2]
      simp
    | cons z T =>
      have hz : S.head? ≠ some x := fun q => by
        rw [e2] at q
        have hzx : z = x := by simpa using q
        have hn2 := (List.nodup_cons.mp (List.nodup_append.mp hn).2.1).2
        rw [e2, hzx] at hn2
        simp at hn2
      rw [if_neg hz, h0.1, gl_app, gl_app, List.getLast?_cons_cons]
  · cases T with
    | nil =>
      rw [List.nil_append] at e2
      rw [List.append_nil] at e1
      have hxS : x ∈ S := by rw [← e2]; simp
      have h0 := h (P ++ [m]) x S2 (by rw [← e2]; simp)
      rw [h3 x (List.mem_append_right _ hxS), h4 x (List.mem_append_right _ hxS)]
      have hp : P.getLast? ≠ some x := fun q => hd x (List.mem_of_getLast? q) hxS
      rw [if_neg hp]
      refine ⟨?_, h0.2⟩
      rw [← e2, ← e1]
      simp
    | cons t T =>
      rw [List.cons_append] at e2
      cases e2
      have hxP : x ∈ P := by rw [e1]; simp
      have h0 := h P2 x (T ++ m :: S) (by rw [e1]; simp)
      rw [h3 x (List.mem_append_left _ hxP), h4 x (List.mem_append_left _ hxP)]
      have hs : S.head? ≠ some x := fun q => hd x hxP (List.mem_of_head? q)
      rw [if_neg hs]
      refine ⟨h0.1, ?_⟩
      cases T with
      | nil =>
        rw [e1]
        simp
      | cons z T =>
        have hz : P.getLast? ≠ some x := fun q => by
          have hn2 := (List.nodup_append.mp hn).1
          rw [e1] at hn2 q
          rw [gl_app, List.getLast?_cons_cons] at q
          have hm := List.mem_of_getLast? q
          have := (List.nodup_append.mp hn2).2.1
          rw [List.nodup_cons] at this
          exact this.1 hm
        rw [if_neg hz, h0.2]
        simp
/-- a list of linked cells, with a holder o of its first and its last -/
def LL (mr : jR) (o kf kl ka kb : Nat) (L : List Nat) : Prop := mr o kf = L.head? ∧ mr o kl = L.getLast? ∧ DL (fun x => mr x ka) (fun x => mr x kb) L
theorem lnkI_at {mr : jR} {o kf kl ka kb m : Nat} {a f : Option Nat} (hk : ka ≠ kb) (hf : kf ≠ kl) (hom : o ≠ m) (hoa : a ≠ some o) (hof : f ≠ some o) (ham : a ≠ some m) (hfm : f ≠ some m) :
    (∀ x j, x ≠ o → j ≠ ka → j ≠ kb → lnkI mr o kf kl ka kb m a f x j = mr x j) ∧ lnkI mr o kf kl ka kb m a f m ka = a ∧ lnkI mr o kf kl ka kb m a f m kb = f ∧
    (∀ x, x ≠ m → x ≠ o → lnkI mr o kf kl ka kb m a f x kb = (if a = some x then some m else mr x kb) ∧ lnkI mr o kf kl ka kb m a f x ka = (if f = some x then some m else mr x ka)) ∧
    lnkI mr o kf kl ka kb m a f o kf = (if a = none then some m else mr o kf) ∧ lnkI mr o kf kl ka kb m a f o kl = (if f = none then some m else mr o kl) ∧ (∀ j, j ≠ kf → j ≠ kl → lnkI mr o kf kl ka kb m a f o j = mr o j) ∧
    (∀ x, x ≠ m → x ≠ o → a ≠ some x → f ≠ some x → lnkI mr o kf kl ka kb m a f x = mr x) := by
  have hmo : ¬ m = o := fun q => hom q.symm
  have hkb : ¬ kb = ka := fun q => hk q.symm
  have hlf : ¬ kl = kf := fun q => hf q.symm
  cases a with
  | none =>
    cases f with
    | none =>
      refine ⟨fun x j h1 h2 h3 => ?_, ?_, ?_, fun x h1 h2 => ⟨?_, ?_⟩, ?_, ?_, fun j h1 h2 => ?_, fun x h1 h2 h3 h4 => ?_⟩ <;> (try funext j) <;> simp [lnkI, up2_ap, *]
    | some y =>
      have h5 : ¬ y = m := fun q => hfm (by rw [q])
      have h6 : ¬ m = y := fun q => h5 q.symm
      have h7 : ¬ y = o := fun q => hof (by rw [q])
      have h8 : ¬ o = y := fun q => h7 q.symm
      refine ⟨fun x j h1 h2 h3 => ?_, ?_, ?_, fun x h1 h2 => ⟨?_, ?_⟩, ?_, ?_, fun j h1 h2 => ?_, fun x h1 h2 h3 h4 => ?_⟩
      · simp [lnkI, up2_ap, *]
      · simp [lnkI, up2_ap, *]
      · simp [lnkI, up2_ap, *]
      · simp [lnkI, up2_ap, *]
      · by_cases hx : x = y
        · subst hx
          simp [lnkI, up2_ap, *]
        · have hx2 : ¬ y = x := fun q => hx q.symm
          simp [lnkI, up2_ap, *]
      · simp [lnkI, up2_ap, *]
      · simp [lnkI, up2_ap, *]
      · simp [lnkI, up2_ap, *]
      · have hx : ¬ x = y := fun q => h4 (by rw [q])
        funext j
        simp [lnkI, up2_ap, *]
  | some z =>
    have g5 : ¬ z = m := fun q => ham (by rw [q])
    have g6 : ¬ m = z := fun q => g5 q.symm
    have g7 : ¬ z = o := fun q => hoa (by rw [q])
    have g8 : ¬ o = z := fun q => g7 q.symm
    cases f with
    | none =>
      refine ⟨fun x j h1 h2 h3 => ?_, ?_, ?_, fun x h1 h2 => ⟨?_, ?_⟩, ?_, ?_, fun j h1 h2 => ?_, fun x h1 h2 h3 h4 => ?_⟩
      · simp [lnkI, up2_ap, *]
      · simp [lnkI, up2_ap, *]
      · simp [lnkI, up2_ap, *]
      · by_cases hx : x = z
        · subst hx
          simp [lnkI, up2_ap, *]
        · have hx2 : ¬ z = x := fun q => hx q.symm
          simp [lnkI, up2_ap, *]
      · simp [lnkI, up2_ap, *]
      · simp [lnkI, up2_ap, *]
      · simp [lnkI, up2_ap, *]
      · simp [lnkI, up2_ap, *]
      · have hx : ¬ x = z := fun q => h3 (by rw [q])
        funext j
        simp [lnkI, up2_ap, *]
    | some y =>
      have h5 : ¬ y = m := fun q => hfm (by rw [q])
      have h6 : ¬ m = y := fun q => h5 q.symm
      have h7 : ¬ y = o := fun q => hof (by rw [q])
      have h8 : ¬ o = y := fun q => h7 q.symm
      refine ⟨fun x j h1 h2 h3 => ?_, ?_, ?_, fun x h1 h2 => ⟨?_, ?_⟩, ?_, ?_, fun j h1 h2 => ?_, fun x h1 h2 h3 h4 => ?_⟩
      · simp [lnkI, up2_ap, *]
      · simp [lnkI, up2_ap, *]
      · simp [lnkI, up2_ap, *]
      · by_cases hx : x = z
        · subst hx
          simp [lnkI, up2_ap, *]
        · have hx2 : ¬ z = x := fun q => hx q.symm
          simp [lnkI, up2_ap, *]
      · by_cases hx : x = y
        · subst hx
          simp [lnkI, up2_ap, *]
        · have hx2 : ¬ y = x := fun q => hx q.symm
          simp [lnkI, up2_ap, *]
      · simp [lnkI, up2_ap, *]
      · simp [lnkI, up2_ap, *]
      · simp [lnkI, up2_ap, *]
      · have hx : ¬ x = y := fun q => h4 (by rw [q])
        have hx2 : ¬ x = z := fun q => h3 (by rw [q])
        funext j
        simp [lnkI, up2_ap, *]
theorem lnkR_at {mr : jR} {o kf kl ka kb : Nat} {a f : Option Nat} (hk : ka ≠ kb) (hf : kf ≠ kl) (hoa : a ≠ some o) (hof : f ≠ some o) :
    (∀ x j, x ≠ o → j ≠ ka → j ≠ kb → lnkR mr o kf kl ka kb a f x j = mr x j) ∧
    (∀ x, x ≠ o → lnkR mr o kf kl ka kb a f x kb = (if a = some x then f else mr x kb) ∧ lnkR mr o kf kl ka kb a f x ka = (if f = some x then a else mr x ka)) ∧
    lnkR mr o kf kl ka kb a f o kf = (if a = none then f else mr o kf) ∧ lnkR mr o kf kl ka kb a f o kl = (if f = none then a else mr o kl) ∧ (∀ j, j ≠ kf → j ≠ kl → lnkR mr o kf kl ka kb a f o j = mr o j) ∧
    (∀ x, x ≠ o → a ≠ some x → f ≠ some x → lnkR mr o kf kl ka kb a f x = mr x) := by
  have hkb : ¬ kb = ka := fun q => hk q.symm
  have hlf : ¬ kl = kf := fun q => hf q.symm
  cases a with
  | none =>
    cases f with
    | none =>
      refine ⟨fun x j h1 h2 h3 => ?_, fun x h2 => ⟨?_, ?_⟩, ?_, ?_, fun j h1 h2 => ?_, fun x h2 h3 h4 => ?_⟩ <;> (try funext j) <;> simp [lnkR, up2_ap, *]
    | some y =>
      have h7 : ¬ y = o := fun q => hof (by rw [q])
      have h8 : ¬ o = y := fun q => h7 q.symm
      refine ⟨fun x j h1 h2 h3 => ?_, fun x h2 => ⟨?_, ?_⟩, ?_, ?_, fun j h1 h2 => ?_, fun x h2 h3 h4 => ?_⟩
      · simp [lnkR, up2_ap, *]
      · simp [lnkR, up2_ap, *]
      · by_cases hx : x = y
        · subst hx
          simp [lnkR, up2_ap, *]
        · have hx2 : ¬ y = x := fun q => hx q.symm
          simp [lnkR, up2_ap, *]
      · simp [lnkR, up2_ap, *]
      · simp [lnkR, up2_ap, *]
      · simp [lnkR, up2_ap, *]
      · have hx : ¬ x = y := fun q => h4 (by rw [q])
        funext j
        simp [lnkR, up2_ap, *]
  | some z =>
    have g7 : ¬ z = o := fun q => hoa (by rw [q])
    have g8 : ¬ o = z := fun q => g7 q.symm
    cases f with
    | none =>
      refine ⟨fun x j h1 h2 h3 => ?_, fun x h2 => ⟨?_, ?_⟩, ?_, ?_, fun j h1 h2 => ?_, fun x h2 h3 h4 => ?_⟩
      · simp [lnkR, up2_ap, *]
      · by_cases hx : x = z
        · subst hx
          simp [lnkR, up2_ap, *]
        · have hx2 : ¬ z = x := fun q => hx q.symm
          simp [lnkR, up2_ap, *]
      · simp [lnkR, up2_ap, *]
      · simp [lnkR, up2_ap, *]
      · simp [lnkR, up2_ap, *]
      · simp [lnkR, up2_ap, *]
      · have hx : ¬ x = z := fun q => h3 (by rw [q])
        funext j
        simp [lnkR, up2_ap, *]
    | some y =>
      have h7 : ¬ y = o := fun q => hof (by rw [q])
      have h8 : ¬ o = y := fun q => h7 q.symm
      refine ⟨fun x j h1 h2 h3 => ?_, fun x h2 => ⟨?_, ?_⟩, ?_, ?_, fun j h1 h2 => ?_, fun x h2 h3 h4 => ?_⟩
      · simp [lnkR, up2_ap, *]
      · by_cases hx : x = z
        · subst hx
          simp [lnkR, up2_ap, *]
        · have hx2 : ¬ z = x := fun q => hx q.symm
          simp [lnkR, up2_ap, *]
      · by_cases hx : x = y
        · subst hx
          simp [lnkR, up2_ap, *]
        · have hx2 : ¬ y = x := fun q => hx q.symm
          simp [lnkR, up2_ap, *]
      · simp [lnkR, up2_ap, *]
      · simp [lnkR, up2_ap, *]
      · simp [lnkR, up2_ap, *]
      · have hx : ¬ x = y := fun q => h4 (by rw [q])
        have hx2 : ¬ x = z := fun q => h3 (by rw [q])
        funext j
        simp [lnkR, up2_ap, *]
end
section
/-! PLAIN LAWS 2: insertion and removal keep the links; the order; splitting; chains; counting -/
theorem LL.ins {mr : jR} {o kf kl ka kb m : Nat} {P S : List Nat} (hk : ka ≠ kb) (hf : kf ≠ kl) (h : LL mr o kf kl ka kb (P ++ S)) (hn : (P ++ S).Nodup) (hm : m ∉ P ++ S) (ho : o ∉ P ++ S) (hom : o ≠ m) : LL (lnkI mr o kf kl ka kb m P.getLast? S.head?) o kf kl ka kb (P ++ m :: S) := by
  obtain ⟨h1, h2, h3⟩ := h
  have ha1 : P.getLast? ≠ some o := fun q => ho (List.mem_append_left _ (List.mem_of_getLast? q))
  have ha2 : S.head? ≠ some o := fun q => ho (List.mem_append_right _ (List.mem_of_head? q))
  have ha3 : P.getLast? ≠ some m := fun q => hm (List.mem_append_left _ (List.mem_of_getLast? q))
  have ha4 : S.head? ≠ some m := fun q => hm (List.mem_append_right _ (List.mem_of_head? q))
  obtain ⟨-, g2, g3, g4, g5, g6, -, -⟩ := lnkI_at (mr := mr) (o := o) (m := m) hk hf hom ha1 ha2 ha3 ha4
  refine ⟨?_, ?_, ?_⟩
  · rw [g5, h1]
    cases P with
    | nil => simp
    | cons z P => simp
  · rw [g6, h2]
    cases S with
    | nil => simp
    | cons z S =>
      rw [gl_app, gl_app, List.getLast?_cons_cons]
      simp
  · refine h3.ins hn g2 g3 (fun x hx => ?_) (fun x hx => ?_)
    · exact (g4 x (fun q => hm (q ▸ hx)) (fun q => ho (q ▸ hx))).1
    · exact (g4 x (fun q => hm (q ▸ hx)) (fun q => ho (q ▸ hx))).2
theorem LL.rem {mr : jR} {o kf kl ka kb m : Nat} {P S : List Nat} (hk : ka ≠ kb) (hf : kf ≠ kl) (h : LL mr o kf kl ka kb (P ++ m :: S)) (hn : (P ++ m :: S).Nodup) (ho : o ∉ P ++ m :: S) : LL (lnkR mr o kf kl ka kb P.getLast? S.head?) o kf kl ka kb (P ++ S) := by
  obtain ⟨h1, h2, h3⟩ := h
  have ha1 : P.getLast? ≠ some o := fun q => ho (List.mem_append_left _ (List.mem_of_getLast? q))
  have ha2 : S.head? ≠ some o := fun q => ho (List.mem_append_right _ (List.mem_cons_of_mem _ (List.mem_of_head? q)))
  have ho2 : ∀ x ∈ P ++ S, x ≠ o := fun x hx q => ho (by
    rw [← q]
    rcases List.mem_append.mp hx with h | h
    · exact List.mem_append_left _ h
    · exact List.mem_append_right _ (List.mem_cons_of_mem _ h))
  obtain ⟨-, g4, g5, g6, -, -⟩ := lnkR_at (mr := mr) (o := o) hk hf ha1 ha2
  refine ⟨?_, ?_, ?_⟩
  · rw [g5, h1]
    cases P with
    | nil => simp
    | cons z P => simp
  · rw [g6, h2]
    cases S with
    | nil => simp
    | cons z S =>
      rw [gl_app, gl_app, List.getLast?_cons_cons]
      simp
  · refine h3.rem hn (fun x hx => ?_) (fun x hx => ?_)
    · exact (g4 x (ho2 x hx)).1
    · exact (g4 x (ho2 x hx)).2
theorem LL.congr {mr mr' : jR} {o kf kl ka kb : Nat} {L : List Nat} (h : LL mr o kf kl ka kb L) (ho : mr' o kf = mr o kf ∧ mr' o kl = mr o kl) (hc : ∀ x ∈ L, mr' x ka = mr x ka ∧ mr' x kb = mr x kb) : LL mr' o kf kl ka kb L := ⟨ho.1.trans h.1, ho.2.trans h.2.1, h.2.2.congr hc⟩
/-- a cell in the list: what stands ahead and behind -/
theorem LL.at {mr : jR} {o kf kl ka kb m : Nat} {P S : List Nat} (h : LL mr o kf kl ka kb (P ++ m :: S)) : mr m ka = P.getLast? ∧ mr m kb = S.head? := h.2.2 P m S rfl
-- the order
theorem bef_iff {p a q b : Int32} : befF p a q b = true ↔ p < q ∨ (p = q ∧ a < b) := by
  unfold befF
  simp only [Bool.or_eq_true, Bool.and_eq_true, decide_eq_true_eq, Bool.not_eq_true', decide_eq_false_iff_not]
  rw [Int32.not_le]
theorem bef_irr {p a : Int32} : befF p a p a = false := by
  rw [← Bool.not_eq_true, bef_iff]
  rintro (h | ⟨-, h⟩) <;> exact Int32.lt_irrefl h
theorem bef_trans {p a q b r c : Int32} (h1 : befF p a q b = true) (h2 : befF q b r c = true) : befF p a r c = true := by
  rw [bef_iff] at h1 h2 ⊢
  rcases h1 with h1 | ⟨rfl, h1⟩ <;> rcases h2 with h2 | ⟨rfl, h2⟩
  · exact Or.inl (Int32.lt_trans h1 h2)
  · exact Or.inl h1
  · exact Or.inl h2
  · exact Or.inr ⟨rfl, Int32.lt_trans h1 h2⟩
theorem bef_tot {p a q b : Int32} (hab : a ≠ b) (h : befF p a q b = false) : befF q b p a = true := by
  rw [← Bool.not_eq_true, bef_iff] at h
  rw [bef_iff]
  by_cases e : p = q
  · subst e
    refine Or.inr ⟨rfl, ?_⟩
    have h2 : ¬ a < b := fun z => h (Or.inr ⟨rfl, z⟩)
    rw [Int32.not_lt] at h2
    exact Int32.lt_of_le_of_ne h2 (Ne.symm hab)
  · left
    have h2 : ¬ p < q := fun z => h (Or.inl z)
    rw [Int32.not_lt] at h2
    exact Int32.lt_of_le_of_ne h2 (Ne.symm e)
theorem bef_asym {p a q b : Int32} (h : befF p a q b = true) : befF q b p a = false := by
  rw [← Bool.not_eq_true]
  intro h2
  have := bef_trans h h2
  rw [bef_irr] at this
  cases this
def Srt (mi : jI) (io : Nat → Nat) (L : List Nat) : Prop := L.Pairwise (fun x y => bef mi (io x) (io y) = true)
theorem Srt.nodup {mi : jI} {io : Nat → Nat} {L : List Nat} (h : Srt mi io L) : L.Nodup := by
  refine List.Pairwise.imp (fun {a b} hab => ?_) h
  intro e
  rw [e] at hab
  rw [show bef mi (io b) (io b) = false from bef_irr] at hab
  cases hab
theorem Srt.congr {mi mi' : jI} {io : Nat → Nat} {L : List Nat} (h : Srt mi io L) (hc : ∀ x ∈ L, mi' (io x) 3 = mi (io x) 3 ∧ mi' (io x) 4 = mi (io x) 4) : Srt mi' io L := by
  refine List.Pairwise.imp_of_mem (fun {a b} ha hb hab => ?_) h
  show befF _ _ _ _ = true
  rw [(hc a ha).1, (hc a ha).2, (hc b hb).1, (hc b hb).2]
  exact hab
theorem split_by (f : Nat → Bool) (L : List Nat) : ∃ P S, L = P ++ S ∧ (∀ x ∈ S, f x = true) ∧ ∀ x, P.getLast? = some x → f x = false := by
  induction L with
  | nil => exact ⟨[], [], rfl, fun x h => by simp at h, fun x h => by simp at h⟩
  | cons y L ih =>
    obtain ⟨P, S, e, h1, h2⟩ := ih
    cases P with
    | nil =>
      rw [List.nil_append] at e
      cases hy : f y with
      | true => exact ⟨[], y :: S, by rw [e]; rfl, fun x hx => by
          rcases List.mem_cons.mp hx with h | h
          · rw [h]; exact hy
          · exact h1 x h, fun x h => by simp at h⟩
      | false => exact ⟨[y], S, by rw [e]; rfl, h1, fun x h => by
          have : y = x := by simpa using h
          rw [← this]; exact hy⟩
    | cons z P => exact ⟨y :: z :: P, S, by rw [e]; rfl, h1, fun x h => h2 x (by rw [List.getLast?_cons_cons] at h; exact h)⟩
theorem Srt.ins {mi : jI} {io : Nat → Nat} {P S : List Nat} {m : Nat} (h : Srt mi io (P ++ S)) (hS : ∀ x ∈ S, bef mi (io m) (io x) = true) (hP : ∀ x, P.getLast? = some x → bef mi (io m) (io x) = false) (hk : ∀ x ∈ P ++ S, mi (io x) 4 ≠ mi (io m) 4) : Srt mi io (P ++ m :: S) := by
  obtain ⟨a1, a2, a3⟩ := List.pairwise_append.mp h
  refine List.pairwise_append.mpr ⟨a1, List.pairwise_cons.mpr ⟨hS, a2⟩, fun x hx y hy => ?_⟩
  rcases List.mem_cons.mp hy with e | hy
  · subst e
    cases hl : P.getLast? with
    | none =>
      rw [List.getLast?_eq_none_iff] at hl
      rw [hl] at hx
      simp at hx
    | some z =>
      have hz := hP z hl
      have hzP : z ∈ P := List.mem_of_getLast? hl
      have hzm : bef mi (io z) (io y) = true := bef_tot (Ne.symm (hk z (List.mem_append_left _ hzP))) hz
      by_cases exz : x = z
      · rw [exz]; exact hzm
      · obtain ⟨P', e⟩ : ∃ P', P = P' ++ [z] := by
          rcases List.eq_nil_or_concat P with e | ⟨L, c, e⟩
          · rw [e] at hzP; simp at hzP
          · rw [List.concat_eq_append] at e
            rw [e, List.getLast?_concat] at hl
            cases hl
            exact ⟨L, e⟩
        rw [e] at hx a1
        have hx' : x ∈ P' := by
          rcases List.mem_append.mp hx with h | h
          · exact h
          · exact absurd (by simpa using h) exz
        have := (List.pairwise_append.mp a1).2.2 x hx' z (by simp)
        exact bef_trans this hzm
  · exact a3 x hx y hy
theorem Srt.rem {mi : jI} {io : Nat → Nat} {P S : List Nat} {m : Nat} (h : Srt mi io (P ++ m :: S)) : Srt mi io (P ++ S) := by
  obtain ⟨a1, a2, a3⟩ := List.pairwise_append.mp h
  exact List.pairwise_append.mpr ⟨a1, (List.pairwise_cons.mp a2).2, fun x hx y hy => a3 x hx y (List.mem_cons_of_mem _ hy)⟩
-- chains
theorem sl.congr {mr mr' : jR} {k : Nat} : ∀ {L : List Nat} {h h' : Option Nat}, sl mr k h L → h' = h → (∀ x ∈ L, mr' x k = mr x k) → sl mr' k h' L
  | [], _, _, hs, e, _ => by
    have hs : _ = none := hs
    show _ = none
    rw [e, hs]
  | x :: L, _, _, hs, e, hc => by
    refine ⟨e.trans hs.1, ?_⟩
    exact sl.congr (L := L) hs.2 (hc x List.mem_cons_self) (fun y hy => hc y (List.mem_cons_of_mem _ hy))
theorem sl.app {mr : jR} {k : Nat} {B : List Nat} : ∀ {A : List Nat} {h : Option Nat}, sl mr k h (A ++ B) ↔ ∃ h2, sl mr k h2 B ∧ (match A with
    | [] => h2 = h
    | _ :: _ => True) ∧ (∀ P x S, A = P ++ x :: S → (if P = [] then h = some x else True) ∧ mr x k = (S ++ B).head?) ∧ (A = [] → True) ∧ h2 = B.head? := by
  intro A
  induction A with
  | nil =>
    intro h
    constructor
    · intro hs
      refine ⟨h, hs, rfl, fun P x S e => by simp at e, fun _ => trivial, ?_⟩
      cases B with
      | nil => exact hs
      | cons b B => exact hs.1
    · rintro ⟨h2, hs, e, -⟩
      have e : h2 = h := e
      rw [← e]; exact hs
  | cons a A ih =>
    intro h
    constructor
    · intro hs
      have hs : h = some a ∧ sl mr k (mr a k) (A ++ B) := hs
      obtain ⟨h2, b1, b2, b3, -, b5⟩ := ih.mp hs.2
      refine ⟨h2, b1, trivial, fun P x S e => ?_, fun _ => trivial, b5⟩
      cases P with
      | nil =>
        rw [List.nil_append] at e
        cases e
        refine ⟨by simpa using hs.1, ?_⟩
        cases A with
        | nil =>
          have b2 : h2 = mr a k := b2
          rw [← b2, b5]; rfl
        | cons c A =>
          have := (b3 [] c A rfl).1
          simpa using this
      | cons p P =>
        rw [List.cons_append] at e
        cases e
        exact ⟨by simp, (b3 P x S rfl).2⟩
    · rintro ⟨h2, b1, -, b3, -, b5⟩
      have h0 := b3 [] a A rfl
      refine ⟨by simpa using h0.1, ih.mpr ⟨h2, b1, ?_, fun P x S e => ?_, fun _ => trivial, b5⟩⟩
      · cases A with
        | nil =>
          show h2 = mr a k
          rw [h0.2, b5]; rfl
        | cons c A => trivial
      · have h9 := b3 (a :: P) x S (by rw [e]; rfl)
        refine ⟨?_, h9.2⟩
        by_cases e2 : P = []
        · rw [if_pos e2, h0.2, e, e2]; rfl
        · rw [if_neg e2]; trivial
/-- the links of a chain, by pieces -/
theorem sl.mid {mr : jR} {k : Nat} {A B : List Nat} {q : Nat} {h : Option Nat} (hs : sl mr k h (A ++ q :: B)) : sl mr k (mr q k) B ∧ h = (A ++ [q]).head? ∧ (∀ z, A.getLast? = some z → mr z k = some q) := by
  induction A generalizing h with
  | nil =>
    have hs : h = some q ∧ sl mr k (mr q k) B := hs
    exact ⟨hs.2, hs.1, fun z hz => by simp at hz⟩
  | cons a A ih =>
    have hs : h = some a ∧ sl mr k (mr a k) (A ++ q :: B) := hs
    obtain ⟨h1, h2, h3⟩ := ih hs.2
    refine ⟨h1, hs.1, fun z hz => ?_⟩
    cases A with
    | nil =>
      have : a = z := by simpa using hz
      rw [← this, h2]; rfl
    | cons c A => exact h3 z (by rw [List.getLast?_cons_cons] at hz; exact hz)
/-- q goes out of a chain: what points to it points behind it -/
theorem sl.drop {mr mr' : jR} {k : Nat} {A B : List Nat} {q : Nat} {h h' : Option Nat} (hs : sl mr k h (A ++ q :: B)) (hn : (A ++ q :: B).Nodup) (hA : A = [] → h' = mr q k) (hA2 : A ≠ [] → h' = h) (hz : ∀ x ∈ A ++ B, mr' x k = if A.getLast? = some x then mr q k else mr x k) : sl mr' k h' (A ++ B) := by
  induction A generalizing h h' with
  | nil =>
    have hs : h = some q ∧ sl mr k (mr q k) B := hs
    rw [hA rfl]
    exact hs.2.congr rfl (fun x hx => by have := hz x hx; simpa using this)
  | cons a A ih =>
    have hs : h = some a ∧ sl mr k (mr a k) (A ++ q :: B) := hs
    rw [hA2 (by simp)]
    have hn' : (a :: (A ++ q :: B)).Nodup := hn
    rw [List.nodup_cons] at hn'
    refine ⟨hs.1, ih hs.2 hn'.2 (fun e => ?_) (fun e => ?_) (fun x hx => ?_)⟩
    · rw [hz a (by simp), e]
      simp
    · rw [hz a (by simp)]
      have : ¬ (a :: A).getLast? = some a := fun z => by
        cases A with
        | nil => exact e rfl
        | cons c A =>
          rw [List.getLast?_cons_cons] at z
          exact hn'.1 (List.mem_append_left _ (List.mem_of_getLast? z))
      rw [if_neg this]
    · rw [hz x (by simp at hx ⊢; exact Or.inr hx)]
      cases A with
      | nil =>
        have hxa : ¬ a = x := fun z => hn'.1 (by rw [z]; simp at hx ⊢; exact Or.inr hx)
        simp [hxa]
      | cons c A => rw [List.getLast?_cons_cons]
-- the lines in use
def Us (Cs : Nat → List Nat) : List Nat := (List.range 256).flatMap Cs
theorem mem_Us {Cs : Nat → List Nat} {q : Nat} : q ∈ Us Cs ↔ ∃ c, c < 256 ∧ q ∈ Cs c := by
  unfold Us
  rw [List.mem_flatMap]
  constructor
  · rintro ⟨c, h1, h2⟩
    exact ⟨c, List.mem_range.mp h1, h2⟩
  · rintro ⟨c, h1, h2⟩
    exact ⟨c, List.mem_range.mpr h1, h2⟩
theorem flat_perm {Cs Cs' : Nat → List Nat} {c q : Nat} (ho : ∀ x, x ≠ c → Cs' x = Cs x) (hc : (Cs' c).Perm (q :: Cs c)) : ∀ R : List Nat, R.Nodup → c ∈ R → (R.flatMap Cs').Perm (q :: R.flatMap Cs) := by
  intro R
  induction R with
  | nil => intro _ h; simp at h
  | cons x R ih =>
    intro hn hm
    rw [List.nodup_cons] at hn
    rw [List.flatMap_cons, List.flatMap_cons]
    by_cases e : x = c
    · subst e
      have : R.flatMap Cs' = R.flatMap Cs := by
        have : ∀ y ∈ R, Cs' y = Cs y := fun y hy => ho y (fun z => hn.1 (z ▸ hy))
        rw [List.flatMap_def, List.flatMap_def, List.map_congr_left this]
      rw [this]
      exact (hc.append_right _)
    · rw [ho x e]
      have h2 := ih hn.2 (by
        rcases List.mem_cons.mp hm with h | h
        · exact absurd h.symm e
        · exact h)
      exact (h2.append_left (Cs x)).trans List.perm_middle
theorem Us_perm {Cs Cs' : Nat → List Nat} {c q : Nat} (hlt : c < 256) (ho : ∀ x, x ≠ c → Cs' x = Cs x) (hc : (Cs' c).Perm (q :: Cs c)) : (Us Cs').Perm (q :: Us Cs) := flat_perm ho hc _ List.nodup_range (List.mem_range.mpr hlt)
-- counting
theorem nodup_le {A B : List Nat} (hA : A.Nodup) (h : ∀ x ∈ A, x ∈ B) : A.length ≤ B.length := by
  induction A generalizing B with
  | nil => simp
  | cons a A ih =>
    rw [List.nodup_cons] at hA
    have ha := h a List.mem_cons_self
    have h2 := ih (B := B.erase a) hA.2 (fun x hx => by
      have hne : x ≠ a := fun e => hA.1 (e ▸ hx)
      exact (List.mem_erase_of_ne hne).mpr (h x (List.mem_cons_of_mem _ hx)))
    have h3 := List.length_erase_of_mem ha
    have h4 : 0 < B.length := List.length_pos_of_mem ha
    rw [List.length_cons]
    omega
theorem nodup_map_inj {L : List Nat} {f : Nat → Nat} (h : L.Nodup) (hi : ∀ x ∈ L, ∀ y ∈ L, f x = f y → x = y) : (L.map f).Nodup := by
  induction L with
  | nil => simp
  | cons a L ih =>
    rw [List.nodup_cons] at h
    rw [List.map_cons, List.nodup_cons]
    refine ⟨fun hm => ?_, ih h.2 (fun x hx y hy => hi x (List.mem_cons_of_mem _ hx) y (List.mem_cons_of_mem _ hy))⟩
    obtain ⟨y, hy, e⟩ := List.mem_map.mp hm
    have := hi y (List.mem_cons_of_mem _ hy) a List.mem_cons_self e
    exact h.1 (this ▸ hy)
end
section
/-! PLAIN LAWS 3: the lines. ls: the Lines, ch: its table; io: whose a member is; pl: which members stand in lines; E: which lines may be empty; Cs: the chains, F: the free ones, LM: a line's members in their order -/
def LInv (tt : jT) (mi : jI) (mr : jR) (ls ch : Nat) (io : Nat → Nat) (pl E : Nat → Prop) (Cs : Nat → List Nat) (F : List Nat) (LM : Nat → List Nat) : Prop :=
  (tt ls = some (.inl 3) ∧ mr ls 0 = some ch ∧ tt ch = some (.inr (2, 256))) ∧
  (∀ c, c < 256 → sl mr 4 (mr ch c) (Cs c)) ∧
  sl mr 4 (mr ls 1) F ∧
  (F ++ Us Cs).Nodup ∧ (F ++ Us Cs).length = 1600 ∧ mi ls 2 = nI (Us Cs).length ∧
  (∀ q ∈ F ++ Us Cs, tt q = some (.inl 2) ∧ LL mr q 2 3 3 4 (LM q) ∧ mi q 1 = nI (LM q).length) ∧
  (∀ q ∈ F, LM q = []) ∧
  (∀ c, c < 256 → ∀ q ∈ Cs c, chF (mi q 0) = c) ∧
  (∀ q ∈ Us Cs, ∀ q' ∈ Us Cs, mi q 0 = mi q' 0 → q = q') ∧
  (∀ q ∈ Us Cs, Srt mi io (LM q) ∧ (¬ E q → LM q ≠ []) ∧ ∀ m, m ∈ LM q ↔ pl m ∧ mi m 1 = mi q 0) ∧
  (∀ q ∈ Us Cs, ∀ m ∈ LM q, mr m 2 = some q) ∧
  (∀ m, pl m → tt m = some (.inl 1) ∧ mr m 0 = some (io m) ∧ tt (io m) = some (.inl 0) ∧ ∃ q ∈ Us Cs, mi q 0 = mi m 1)
theorem kne {tt : jT} {a b : Nat} {p q : Nat ⊕ (Nat × Nat)} (ha : tt a = some p) (hb : tt b = some q) (h : p ≠ q) : a ≠ b := fun e => h (by rw [e, hb] at ha; exact (Option.some.inj ha).symm)
/-- what the lines rest on stays -/
theorem LInv.congr {tt : jT} {mi mi' : jI} {mr mr' : jR} {ls ch : Nat} {io : Nat → Nat} {pl pl' E E' : Nat → Prop} {Cs : Nat → List Nat} {F : List Nat} {LM : Nat → List Nat} (h : LInv tt mi mr ls ch io pl E Cs F LM)
    (hc : ∀ a, (tt a = some (.inl 1) ∨ tt a = some (.inl 2) ∨ tt a = some (.inl 3) ∨ tt a = some (.inr (2, 256))) → (tt a = some (.inl 1) → pl a) → mi' a = mi a ∧ mr' a = mr a)
    (hk : ∀ m, pl m → mi' (io m) 3 = mi (io m) 3 ∧ mi' (io m) 4 = mi (io m) 4) (hp : ∀ m, pl' m ↔ pl m) (hE : ∀ q, E q → E' q) : LInv tt mi' mr' ls ch io pl' E' Cs F LM := by
  obtain ⟨⟨a1, a2, a3⟩, b, c, d1, d2, d3, f, g, i, j, k, n, o⟩ := h
  have hls := hc ls (Or.inr (Or.inr (Or.inl a1))) (fun z => by rw [a1] at z; cases z)
  have hch := hc ch (Or.inr (Or.inr (Or.inr a3))) (fun z => by rw [a3] at z; cases z)
  have hq : ∀ q ∈ F ++ Us Cs, mi' q = mi q ∧ mr' q = mr q := fun q hq => hc q (Or.inr (Or.inl (f q hq).1)) (fun z => by rw [(f q hq).1] at z; cases z)
  have hm : ∀ m, pl m → mi' m = mi m ∧ mr' m = mr m := fun m hm => hc m (Or.inl (o m hm).1) (fun _ => hm)
  have hU : ∀ q ∈ Us Cs, mi' q = mi q ∧ mr' q = mr q := fun q h => hq q (List.mem_append_right _ h)
  have hpl : ∀ q ∈ F ++ Us Cs, ∀ m ∈ LM q, pl m := fun q hq m hm => by
    rcases List.mem_append.mp hq with h | h
    · rw [g q h] at hm; simp at hm
    · exact (((k q h).2.2 m).mp hm).1
  refine ⟨⟨a1, by rw [hls.2]; exact a2, a3⟩, fun c0 hc0 => ?_, ?_, d1, d2, by rw [hls.1]; exact d3, fun q h0 => ?_, g, fun c0 h0 q h1 => ?_, fun q h1 q' h2 e => ?_, fun q h0 => ⟨?_, ?_, fun m => ?_⟩, fun q h0 m hm0 => ?_, fun m h0 => ?_⟩
  · exact (b c0 hc0).congr (by rw [hch.2]) (fun x hx => by rw [(hU x (mem_Us.mpr ⟨c0, hc0, hx⟩)).2])
  · exact c.congr (by rw [hls.2]) (fun x hx => by rw [(hq x (List.mem_append_left _ hx)).2])
  · obtain ⟨f1, f2, f3⟩ := f q h0
    exact ⟨f1, f2.congr (by rw [(hq q h0).2]; exact ⟨rfl, rfl⟩) (fun x hx => by rw [(hm x (hpl q h0 x hx)).2]; exact ⟨rfl, rfl⟩), by rw [(hq q h0).1]; exact f3⟩
  · rw [(hU q (mem_Us.mpr ⟨c0, h0, h1⟩)).1]; exact i c0 h0 q h1
  · rw [(hU q h1).1, (hU q' h2).1] at e; exact j q h1 q' h2 e
  · exact (k q h0).1.congr (fun x hx => hk x (hpl q (List.mem_append_right _ h0) x hx))
  · exact fun z => (k q h0).2.1 (fun y => z (hE q y))
  · rw [(k q h0).2.2 m, hp m, (hU q h0).1]
    constructor
    · rintro ⟨h1, h2⟩; exact ⟨h1, by rw [(hm m h1).1]; exact h2⟩
    · rintro ⟨h1, h2⟩; exact ⟨h1, by rw [(hm m h1).1] at h2; exact h2⟩
  · rw [(hm m (hpl q (List.mem_append_right _ h0) m hm0)).2]; exact n q h0 m hm0
  · have h1 := (hp m).mp h0
    obtain ⟨o1, o2, o3, q, o4, o5⟩ := o m h1
    exact ⟨o1, by rw [(hm m h1).2]; exact o2, o3, q, o4, by rw [(hU q o4).1, (hm m h1).1]; exact o5⟩
/-- a line is found by its position -/
theorem LInv.find {tt : jT} {mi : jI} {mr : jR} {ls ch : Nat} {io : Nat → Nat} {pl E : Nat → Prop} {Cs : Nat → List Nat} {F : List Nat} {LM : Nat → List Nat} (h : LInv tt mi mr ls ch io pl E Cs F LM) (p : Int32) :
    (∀ q, (Cs (chF p)).find? (fun l => decide (mi l 0 = p)) = some q → q ∈ Us Cs ∧ mi q 0 = p) ∧ ((Cs (chF p)).find? (fun l => decide (mi l 0 = p)) = none → ∀ q ∈ Us Cs, mi q 0 ≠ p) ∧ (∀ q ∈ Us Cs, mi q 0 = p → (Cs (chF p)).find? (fun l => decide (mi l 0 = p)) = some q) := by
  obtain ⟨⟨a1, a2, a3⟩, b, c, d1, d2, d3, f, g, i, j, k, n, o⟩ := h
  have hlt := (chF_ok p).2
  have h1 : ∀ q, (Cs (chF p)).find? (fun l => decide (mi l 0 = p)) = some q → q ∈ Us Cs ∧ mi q 0 = p := fun q hq => ⟨mem_Us.mpr ⟨_, hlt, List.mem_of_find?_eq_some hq⟩, by simpa using List.find?_some hq⟩
  have h2 : (Cs (chF p)).find? (fun l => decide (mi l 0 = p)) = none → ∀ q ∈ Us Cs, mi q 0 ≠ p := fun hn q hq e => by
    obtain ⟨c0, hc0, hq0⟩ := mem_Us.mp hq
    have hc1 := i c0 hc0 q hq0
    rw [e] at hc1
    rw [← hc1] at hq0
    have := List.find?_eq_none.mp hn q hq0
    simp [e] at this
  refine ⟨h1, h2, fun q hq e => ?_⟩
  cases hr : (Cs (chF p)).find? (fun l => decide (mi l 0 = p)) with
  | none => exact absurd e (h2 hr q hq)
  | some q' =>
    have h3 := h1 q' hr
    rw [j q hq q' h3.1 (by rw [e, h3.2])]
/-- a line is made -/
theorem LInv.need {tt : jT} {mi : jI} {mr : jR} {ls ch : Nat} {io : Nat → Nat} {pl : Nat → Prop} {Cs : Nat → List Nat} {F : List Nat} {LM : Nat → List Nat} {q : Nat} {p : Int32} (h : LInv tt mi mr ls ch io pl (fun _ => False) Cs (q :: F) LM) (hno : ∀ x ∈ Us Cs, mi x 0 ≠ p) :
    LInv tt (up2 (up2 mi q 0 p) ls 2 (mi ls 2 + 1)) (up2 (up2 (up2 mr ls 1 (mr q 4)) q 4 (mr ch (chF p))) ch (chF p) (some q)) ls ch io pl (fun x => x = q) (va_up Cs (chF p) (q :: Cs (chF p))) F LM := by
  obtain ⟨⟨a1, a2, a3⟩, b, c, d1, d2, d3, f, g, i, j, k, n, o⟩ := h
  have hlt := (chF_ok p).2
  have hqk := (f q (by simp)).1
  have nql : q ≠ ls := kne hqk a1 (by simp)
  have nqc : q ≠ ch := kne hqk a3 (by simp)
  have nlc : ls ≠ ch := kne a1 a3 (by simp)
  generalize hmi' : up2 (up2 mi q 0 p) ls 2 (mi ls 2 + 1) = mi'
  generalize hmr' : up2 (up2 (up2 mr ls 1 (mr q 4)) q 4 (mr ch (chF p))) ch (chF p) (some q) = mr'
  have I1 : ∀ x, x ≠ q → x ≠ ls → mi' x = mi x := fun x h1 h2 => by rw [← hmi', up2_off _ _ _ _ h2, up2_off _ _ _ _ h1]
  have I2 : mi' q 0 = p := by rw [← hmi']; simp [up2_ap, nql]
  have I3 : mi' q 1 = mi q 1 := by rw [← hmi']; simp [up2_ap]
  have I4 : mi' ls 2 = mi ls 2 + 1 := by rw [← hmi']; simp [up2_ap]
  have R1 : ∀ x, x ≠ q → x ≠ ls → x ≠ ch → mr' x = mr x := fun x h1 h2 h3 => by rw [← hmr', up2_off _ _ _ _ h3, up2_off _ _ _ _ h1, up2_off _ _ _ _ h2]
  have R2 : mr' q 4 = mr ch (chF p) := by rw [← hmr']; simp [up2_ap, nqc]
  have R3 : ∀ y, y ≠ 4 → mr' q y = mr q y := fun y hy => by rw [← hmr']; simp [up2_ap, nqc, nql, hy]
  have R4 : mr' ls 1 = mr q 4 := by rw [← hmr']; simp [up2_ap, nlc, Ne.symm nql]
  have R5 : mr' ls 0 = mr ls 0 := by rw [← hmr']; simp [up2_ap, nlc, Ne.symm nql]
  have R6 : mr' ch (chF p) = some q := by rw [← hmr']; simp [up2_ap]
  have R7 : ∀ y, y ≠ chF p → mr' ch y = mr ch y := fun y hy => by rw [← hmr']; simp [up2_ap, hy, Ne.symm nqc, Ne.symm nlc]
  have hperm : (Us (va_up Cs (chF p) (q :: Cs (chF p)))).Perm (q :: Us Cs) := Us_perm hlt (fun x hx => va_up_ne _ _ hx) (by rw [va_up_self])
  have hperm2 : (F ++ Us (va_up Cs (chF p) (q :: Cs (chF p)))).Perm (q :: F ++ Us Cs) := (hperm.append_left F).trans List.perm_middle
  have hqU : q ∉ Us Cs := fun z => by
    have := (List.nodup_append.mp d1).2.2 q (by simp) q z
    exact this rfl
  have hqF : q ∉ F := by
    have := (List.nodup_append.mp d1).1
    rw [List.nodup_cons] at this
    exact this.1
  have hx : ∀ x ∈ F ++ Us Cs, x ≠ q ∧ x ≠ ls ∧ x ≠ ch := fun x hx => by
    have hk := (f x (by simp at hx ⊢; exact Or.inr hx)).1
    refine ⟨fun e => ?_, kne hk a1 (by simp), kne hk a3 (by simp)⟩
    rcases List.mem_append.mp hx with z | z
    · exact hqF (e ▸ z)
    · exact hqU (e ▸ z)
  have hm : ∀ m, pl m → (mi' m = mi m ∧ mr' m = mr m) ∧ mi' (io m) = mi (io m) := fun m h0 => by
    obtain ⟨o1, o2, o3, -⟩ := o m h0
    exact ⟨⟨I1 m (kne o1 hqk (by simp)) (kne o1 a1 (by simp)), R1 m (kne o1 hqk (by simp)) (kne o1 a1 (by simp)) (kne o1 a3 (by simp))⟩, I1 _ (kne o3 hqk (by simp)) (kne o3 a1 (by simp))⟩
  have hU' : ∀ x, x ∈ Us (va_up Cs (chF p) (q :: Cs (chF p))) ↔ x = q ∨ x ∈ Us Cs := fun x => by rw [hperm.mem_iff, List.mem_cons]
  have hpl : ∀ x ∈ q :: F ++ Us Cs, ∀ m ∈ LM x, pl m := fun x h0 m hm0 => by
    rcases List.mem_append.mp h0 with z | z
    · rw [g x z] at hm0; simp at hm0
    · exact (((k x z).2.2 m).mp hm0).1
  have hLq : LM q = [] := g q (by simp)
  refine ⟨⟨a1, R5.trans a2, a3⟩, fun c0 hc0 => ?_, ?_, hperm2.nodup_iff.mpr d1, by rw [hperm2.length_eq]; exact d2, ?_, fun x h0 => ?_, fun x h0 => g x (List.mem_cons_of_mem _ h0), fun c0 h0 x h1 => ?_, fun x h1 y h2 e => ?_, fun x h0 => ?_, fun x h0 m hm0 => ?_, fun m h0 => ?_⟩
  · by_cases e : c0 = chF p
    · subst e
      rw [va_up_self, R6]
      refine ⟨rfl, ?_⟩
      rw [R2]
      exact (b _ hc0).congr rfl (fun x h1 => by
        have := hx x (List.mem_append_right _ (mem_Us.mpr ⟨_, hc0, h1⟩))
        rw [R1 x this.1 this.2.1 this.2.2])
    · rw [va_up_ne _ _ e, R7 c0 e]
      exact (b _ hc0).congr rfl (fun x h1 => by
        have := hx x (List.mem_append_right _ (mem_Us.mpr ⟨_, hc0, h1⟩))
        rw [R1 x this.1 this.2.1 this.2.2])
  · rw [R4]
    have c2 : mr ls 1 = some q ∧ sl mr 4 (mr q 4) F := c
    exact c2.2.congr rfl (fun x h1 => by
        have := hx x (List.mem_append_left _ h1)
        rw [R1 x this.1 this.2.1 this.2.2])
  · rw [I4, d3, hperm.length_eq, List.length_cons, nI_1]
  · have h1 : x ∈ q :: F ++ Us Cs := hperm2.mem_iff.mp h0
    obtain ⟨f1, f2, f3⟩ := f x h1
    by_cases e : x = q
    · subst e
      refine ⟨f1, f2.congr ⟨R3 2 (by decide), R3 3 (by decide)⟩ (fun y hy => by rw [hLq] at hy; simp at hy), by rw [I3]; exact f3⟩
    · have h2 : x ∈ F ++ Us Cs := by simpa [e] using h1
      have h3 := hx x h2
      refine ⟨f1, f2.congr (by rw [R1 x h3.1 h3.2.1 h3.2.2]; exact ⟨rfl, rfl⟩) (fun y hy => by rw [(hm y (hpl x h1 y hy)).1.2]; exact ⟨rfl, rfl⟩), by rw [I1 x h3.1 h3.2.1]; exact f3⟩
  · by_cases e : c0 = chF p
    · subst e
      rw [va_up_self] at h1
      rcases List.mem_cons.mp h1 with e1 | h1
      · rw [e1, I2]
      · have := hx x (List.mem_append_right _ (mem_Us.mpr ⟨_, h0, h1⟩))
        rw [I1 x this.1 this.2.1]
        exact i _ h0 x h1
    · rw [va_up_ne _ _ e] at h1
      have := hx x (List.mem_append_right _ (mem_Us.mpr ⟨_, h0, h1⟩))
      rw [I1 x this.1 this.2.1]
      exact i _ h0 x h1
  · rcases (hU' x).mp h1 with e1 | z1 <;> rcases (hU' y).mp h2 with e2 | z2
    · rw [e1, e2]
    · have := hx y (List.mem_append_right _ z2)
      rw [e1, I2, I1 y this.1 this.2.1] at e
      exact absurd e.symm (hno y z2)
    · have := hx x (List.mem_append_right _ z1)
      rw [e2, I2, I1 x this.1 this.2.1] at e
      exact absurd e (hno x z1)
    · have t1 := hx x (List.mem_append_right _ z1)
      have t2 := hx y (List.mem_append_right _ z2)
      rw [I1 x t1.1 t1.2.1, I1 y t2.1 t2.2.1] at e
      exact j x z1 y z2 e
  · rcases (hU' x).mp h0 with e1 | z1
    · subst e1
      rw [hLq]
      refine ⟨List.Pairwise.nil, fun z => absurd rfl z, fun m => ⟨fun z => by simp at z, fun z => ?_⟩⟩
      obtain ⟨-, -, -, y, o4, o5⟩ := o m z.1
      rw [(hm m z.1).1.1, I2] at z
      exact absurd (o5.trans z.2) (hno y o4)
    · have t1 := hx x (List.mem_append_right _ z1)
      obtain ⟨k1, k2, k3⟩ := k x z1
      refine ⟨k1.congr (fun y hy => ?_), fun _ => k2 (fun z => z), fun m => ?_⟩
      · rw [(hm y ((k3 y).mp hy).1).2]; exact ⟨rfl, rfl⟩
      · rw [k3 m, I1 x t1.1 t1.2.1]
        constructor
        · rintro ⟨h1, h2⟩; exact ⟨h1, by rw [(hm m h1).1.1]; exact h2⟩
        · rintro ⟨h1, h2⟩; exact ⟨h1, by rw [(hm m h1).1.1] at h2; exact h2⟩
  · rcases (hU' x).mp h0 with e1 | z1
    · rw [e1, hLq] at hm0; simp at hm0
    · rw [(hm m (hpl x (List.mem_append_right _ z1) m hm0)).1.2]; exact n x z1 m hm0
  · obtain ⟨o1, o2, o3, y, o4, o5⟩ := o m h0
    have t1 := hx y (List.mem_append_right _ o4)
    exact ⟨o1, by rw [(hm m h0).1.2]; exact o2, o3, y, (hU' y).mpr (Or.inr o4), by rw [I1 y t1.1 t1.2.1, (hm m h0).1.1]; exact o5⟩
end
section
/-! PLAIN LAWS 4: a member comes into a line, goes out of it; a line goes -/
theorem flat_nodup {Cs : Nat → List Nat} : ∀ R : List Nat, (R.flatMap Cs).Nodup → ∀ c ∈ R, (Cs c).Nodup := by
  intro R
  induction R with
  | nil => intro _ c hc; simp at hc
  | cons x R ih =>
    intro h c hc
    rw [List.flatMap_cons] at h
    rcases List.mem_cons.mp hc with e | z
    · rw [e]; exact (List.nodup_append.mp h).1
    · exact ih (List.nodup_append.mp h).2.1 c z
theorem LInv.insert {tt : jT} {mi : jI} {mr : jR} {ls ch : Nat} {io : Nat → Nat} {pl E : Nat → Prop} {Cs : Nat → List Nat} {F : List Nat} {LM : Nat → List Nat} {q m : Nat} {P S : List Nat} (h : LInv tt mi mr ls ch io pl E Cs F LM) (hE : ∀ x, E x → x = q) (hq : q ∈ Us Cs) (hpos : mi q 0 = mi m 1) (hnp : ¬ pl m) (hm : tt m = some (.inl 1)) (him : mr m 0 = some (io m)) (htim : tt (io m) = some (.inl 0)) (hkey : ∀ x, pl x → mi x 1 = mi m 1 → mi (io x) 4 ≠ mi (io m) 4) (hL : LM q = P ++ S) (hS : ∀ x ∈ S, bef mi (io m) (io x) = true) (hP : ∀ x, P.getLast? = some x → bef mi (io m) (io x) = false) :
    LInv tt (up2 mi q 1 (mi q 1 + 1)) (lnkI (up2 mr m 2 (some q)) q 2 3 3 4 m P.getLast? S.head?) ls ch io (fun x => pl x ∨ x = m) (fun _ => False) Cs F (va_up LM q (P ++ m :: S)) := by
  obtain ⟨⟨a1, a2, a3⟩, b, c, d1, d2, d3, f, g, i, j, k, n, o⟩ := h
  have hqk := (f q (List.mem_append_right _ hq)).1
  obtain ⟨-, fq2, fq3⟩ := f q (List.mem_append_right _ hq)
  obtain ⟨kq1, kq2, kq3⟩ := k q hq
  rw [hL] at fq2 fq3 kq1 kq3
  have hmL : m ∉ P ++ S := fun z => hnp ((kq3 m).mp z).1
  have htL : ∀ x ∈ P ++ S, tt x = some (.inl 1) := fun x hx => (o x ((kq3 x).mp hx).1).1
  have hqL : q ∉ P ++ S := fun z => absurd (htL q z) (by rw [hqk]; simp)
  have hqm : q ≠ m := kne hqk hm (by simp)
  have hql : q ≠ ls := kne hqk a1 (by simp)
  have hqc : q ≠ ch := kne hqk a3 (by simp)
  have hnd : (P ++ S).Nodup := kq1.nodup
  have ha1 : P.getLast? ≠ some q := fun z => hqL (List.mem_append_left _ (List.mem_of_getLast? z))
  have ha2 : S.head? ≠ some q := fun z => hqL (List.mem_append_right _ (List.mem_of_head? z))
  have ha3 : P.getLast? ≠ some m := fun z => hmL (List.mem_append_left _ (List.mem_of_getLast? z))
  have ha4 : S.head? ≠ some m := fun z => hmL (List.mem_append_right _ (List.mem_of_head? z))
  have hmr0 : LL (up2 mr m 2 (some q)) q 2 3 3 4 (P ++ S) := fq2.congr (by rw [up2_off _ _ _ _ hqm]; exact ⟨rfl, rfl⟩) (fun x hx => by
    have : x ≠ m := fun e => hmL (e ▸ hx)
    rw [up2_off _ _ _ _ this]; exact ⟨rfl, rfl⟩)
  have hLL := hmr0.ins (m := m) (by decide) (by decide) hnd hmL hqL hqm
  obtain ⟨g1, g2, g3, g4, g5, g6, g7, g8⟩ := lnkI_at (mr := up2 mr m 2 (some q)) (o := q) (m := m) (kf := 2) (kl := 3) (ka := 3) (kb := 4) (a := P.getLast?) (f := S.head?) (by decide) (by decide) hqm ha1 ha2 ha3 ha4
  generalize lnkI (up2 mr m 2 (some q)) q 2 3 3 4 m P.getLast? S.head? = mr' at hLL g1 g2 g3 g4 g5 g6 g7 g8 ⊢
  generalize hmi' : up2 mi q 1 (mi q 1 + 1) = mi'
  have I1 : ∀ x, x ≠ q → mi' x = mi x := fun x h1 => by rw [← hmi', up2_off _ _ _ _ h1]
  have I2 : ∀ y, y ≠ 1 → mi' q y = mi q y := fun y hy => by rw [← hmi']; simp [up2_ap, hy]
  have I3 : mi' q 1 = mi q 1 + 1 := by rw [← hmi']; simp [up2_ap]
  have I0 : ∀ x, mi' x 0 = mi x 0 := fun x => by
    by_cases e : x = q
    · rw [e]; exact I2 0 (by decide)
    · rw [I1 x e]
  have hnm : ∀ x, tt x ≠ some (.inl 1) → x ≠ q → mr' x = mr x := fun x h1 h2 => by
    have e1 : x ≠ m := fun e => h1 (by rw [e]; exact hm)
    rw [g8 x e1 h2 (fun z => h1 (htL x (List.mem_append_left _ (List.mem_of_getLast? z)))) (fun z => h1 (htL x (List.mem_append_right _ (List.mem_of_head? z)))), up2_off _ _ _ _ e1]
  have Rq : ∀ y, y ≠ 2 → y ≠ 3 → mr' q y = mr q y := fun y h1 h2 => by rw [g7 y h1 h2, up2_off _ _ _ _ hqm]
  have R4 : ∀ x ∈ F ++ Us Cs, mr' x 4 = mr x 4 := fun x hx => by
    by_cases e : x = q
    · rw [e]; exact Rq 4 (by decide) (by decide)
    · rw [hnm x (by rw [(f x hx).1]; simp) e]
  have Rm0 : ∀ x, tt x = some (.inl 1) → mr' x 0 = mr x 0 := fun x hx => by
    have e1 : x ≠ q := kne hx hqk (by simp)
    rw [g1 x 0 e1 (by decide) (by decide), up2_ap, if_neg (by simp)]
  have Rm2 : ∀ x, tt x = some (.inl 1) → x ≠ m → mr' x 2 = mr x 2 := fun x hx h2 => by
    have e1 : x ≠ q := kne hx hqk (by simp)
    rw [g1 x 2 e1 (by decide) (by decide), up2_off _ _ _ _ h2]
  have hpi : ∀ x, pl x → mi' x = mi x ∧ mi' (io x) = mi (io x) := fun x hx => ⟨I1 x (kne (o x hx).1 hqk (by simp)), I1 _ (kne (o x hx).2.2.1 hqk (by simp))⟩
  have hmi1 : mi' m = mi m ∧ mi' (io m) = mi (io m) := ⟨I1 m (Ne.symm hqm), I1 _ (kne htim hqk (by simp))⟩
  have hls : mr' ls = mr ls := hnm ls (by rw [a1]; simp) (Ne.symm hql)
  have hch : mr' ch = mr ch := hnm ch (by rw [a3]; simp) (Ne.symm hqc)
  have hoth : ∀ x ∈ F ++ Us Cs, x ≠ q → ∀ y ∈ LM x, mr' y = mr y ∧ pl y := fun x hx hxq y hy => by
    rcases List.mem_append.mp hx with z | z
    · rw [g x z] at hy; simp at hy
    · have hy1 := ((k x z).2.2 y).mp hy
      have hyL : y ∉ P ++ S := fun w => by
        have hy2 := (kq3 y).mp w
        exact hxq (j x z q hq (hy1.2.symm.trans hy2.2))
      have hym : y ≠ m := fun e => hnp (e ▸ hy1.1)
      have hyq : y ≠ q := kne (o y hy1.1).1 hqk (by simp)
      refine ⟨?_, hy1.1⟩
      rw [g8 y hym hyq (fun w => hyL (List.mem_append_left _ (List.mem_of_getLast? w))) (fun w => hyL (List.mem_append_right _ (List.mem_of_head? w))), up2_off _ _ _ _ hym]
  have hqF : q ∉ F := fun z => (List.nodup_append.mp d1).2.2 q z q hq rfl
  refine ⟨⟨a1, by rw [hls]; exact a2, a3⟩, fun c0 hc0 => ?_, ?_, d1, d2, by rw [I1 ls (Ne.symm hql)]; exact d3, fun x h0 => ?_, fun x h0 => ?_, fun c0 h0 x h1 => ?_, fun x h1 y h2 e => ?_, fun x h0 => ?_, fun x h0 y hy => ?_, fun x h0 => ?_⟩
  · exact (b c0 hc0).congr (by rw [hch]) (fun x hx => R4 x (List.mem_append_right _ (mem_Us.mpr ⟨c0, hc0, hx⟩)))
  · exact c.congr (by rw [hls]) (fun x hx => R4 x (List.mem_append_left _ hx))
  · obtain ⟨f1, f2, f3⟩ := f x h0
    by_cases e : x = q
    · rw [e, va_up_self]
      refine ⟨hqk, hLL, ?_⟩
      rw [I3, fq3, nI_1]
      congr 1
      simp
      omega
    · rw [va_up_ne _ _ e]
      refine ⟨f1, f2.congr (by rw [hnm x (by rw [f1]; simp) e]; exact ⟨rfl, rfl⟩) (fun y hy => by rw [(hoth x h0 e y hy).1]; exact ⟨rfl, rfl⟩), by rw [I1 x e]; exact f3⟩
  · rw [va_up_ne _ _ (fun (e : x = q) => hqF (e ▸ h0))]; exact g x h0
  · rw [I0]; exact i c0 h0 x h1
  · rw [I0, I0] at e; exact j x h1 y h2 e
  · obtain ⟨k1, k2, k3⟩ := k x h0
    by_cases e : x = q
    · subst e
      rw [va_up_self]
      refine ⟨?_, fun _ => by simp, fun y => ?_⟩
      · refine (Srt.ins kq1 hS hP (fun y hy => ?_)).congr (fun y hy => ?_)
        · have := (kq3 y).mp hy
          exact hkey y this.1 (this.2.trans hpos)
        · rcases List.mem_append.mp hy with z | z
          · rw [(hpi y ((kq3 y).mp (List.mem_append_left _ z)).1).2]; exact ⟨rfl, rfl⟩
          · rcases List.mem_cons.mp z with e | z
            · rw [e, hmi1.2]; exact ⟨rfl, rfl⟩
            · rw [(hpi y ((kq3 y).mp (List.mem_append_right _ z)).1).2]; exact ⟨rfl, rfl⟩
      · rw [I0]
        constructor
        · intro hy
          have : y = m ∨ y ∈ P ++ S := by simp at hy ⊢; rcases hy with z | z | z <;> simp [z]
          rcases this with e | z
          · exact ⟨Or.inr e, by rw [e, hmi1.1, hpos]⟩
          · have := (kq3 y).mp z
            exact ⟨Or.inl this.1, by rw [(hpi y this.1).1]; exact this.2⟩
        · rintro ⟨z | z, w⟩
          · rw [(hpi y z).1] at w
            have := (kq3 y).mpr ⟨z, w⟩
            simp at this ⊢
            rcases this with v | v
            · exact Or.inl v
            · exact Or.inr (Or.inr v)
          · rw [z]; simp
    · rw [va_up_ne _ _ e]
      refine ⟨k1.congr (fun y hy => by rw [(hpi y ((k3 y).mp hy).1).2]; exact ⟨rfl, rfl⟩), fun _ => k2 (fun z => e (hE x z)), fun y => ?_⟩
      rw [k3 y, I0]
      constructor
      · rintro ⟨z, w⟩; exact ⟨Or.inl z, by rw [(hpi y z).1]; exact w⟩
      · rintro ⟨z | z, w⟩
        · rw [(hpi y z).1] at w; exact ⟨z, w⟩
        · rw [z, hmi1.1, ← hpos] at w
          exact absurd (j q hq x h0 w).symm e
  · by_cases e : x = q
    · subst e
      rw [va_up_self] at hy
      by_cases e2 : y = m
      · subst e2
        rw [g1 y 2 (Ne.symm hqm) (by decide) (by decide), up2_ap, if_pos ⟨rfl, rfl⟩]
      · have : y ∈ P ++ S := by simp at hy ⊢; rcases hy with z | z | z <;> first | exact absurd z e2 | simp [z]
        rw [Rm2 y (htL y this) e2]
        exact n x hq y (by rw [hL]; exact this)
    · rw [va_up_ne _ _ e] at hy
      rw [(hoth x (List.mem_append_right _ h0) e y hy).1]
      exact n x h0 y hy
  · rcases h0 with z | z
    · obtain ⟨o1, o2, o3, y, o4, o5⟩ := o x z
      exact ⟨o1, by rw [Rm0 x o1]; exact o2, o3, y, o4, by rw [I0, (hpi x z).1]; exact o5⟩
    · rw [z]
      exact ⟨hm, by rw [Rm0 m hm]; exact him, htim, q, hq, by rw [I0, hmi1.1]; exact hpos⟩
theorem LInv.remove {tt : jT} {mi : jI} {mr : jR} {ls ch : Nat} {io : Nat → Nat} {pl : Nat → Prop} {Cs : Nat → List Nat} {F : List Nat} {LM : Nat → List Nat} {q m : Nat} {P S : List Nat} (h : LInv tt mi mr ls ch io pl (fun _ => False) Cs F LM) (hq : q ∈ Us Cs) (hL : LM q = P ++ m :: S) :
    LInv tt (up2 mi q 1 (mi q 1 - 1)) (up2 (lnkR mr q 2 3 3 4 P.getLast? S.head?) m 2 none) ls ch io (fun x => pl x ∧ x ≠ m) (fun x => x = q) Cs F (va_up LM q (P ++ S)) := by
  obtain ⟨⟨a1, a2, a3⟩, b, c, d1, d2, d3, f, g, i, j, k, n, o⟩ := h
  have hqk := (f q (List.mem_append_right _ hq)).1
  obtain ⟨-, fq2, fq3⟩ := f q (List.mem_append_right _ hq)
  obtain ⟨kq1, kq2, kq3⟩ := k q hq
  rw [hL] at fq2 fq3 kq1 kq3
  have hmp := (kq3 m).mp (by simp)
  have htL : ∀ x ∈ P ++ m :: S, tt x = some (.inl 1) := fun x hx => (o x ((kq3 x).mp hx).1).1
  have hm : tt m = some (.inl 1) := htL m (by simp)
  have hqL : q ∉ P ++ m :: S := fun z => absurd (htL q z) (by rw [hqk]; simp)
  have hqm : q ≠ m := kne hqk hm (by simp)
  have hql : q ≠ ls := kne hqk a1 (by simp)
  have hqc : q ≠ ch := kne hqk a3 (by simp)
  have hnd : (P ++ m :: S).Nodup := kq1.nodup
  have hsub : ∀ x, x ∈ P ++ S ↔ x ∈ P ++ m :: S ∧ x ≠ m := fun x => by
    constructor
    · intro hx
      refine ⟨?_, fun e => ?_⟩
      · simp at hx ⊢; rcases hx with z | z <;> simp [z]
      · subst e
        rcases List.mem_append.mp hx with z | z
        · exact (List.nodup_append.mp hnd).2.2 x z x List.mem_cons_self rfl
        · exact (List.nodup_cons.mp (List.nodup_append.mp hnd).2.1).1 z
    · rintro ⟨hx, e⟩
      simp at hx ⊢
      rcases hx with z | z | z
      · exact Or.inl z
      · exact absurd z e
      · exact Or.inr z
  have ha1 : P.getLast? ≠ some q := fun z => hqL (List.mem_append_left _ (List.mem_of_getLast? z))
  have ha2 : S.head? ≠ some q := fun z => hqL (List.mem_append_right _ (List.mem_cons_of_mem _ (List.mem_of_head? z)))
  have hLL0 := fq2.rem (by decide) (by decide) hnd hqL
  obtain ⟨g1, g4, g5, g6, g7, g8⟩ := lnkR_at (mr := mr) (o := q) (kf := 2) (kl := 3) (ka := 3) (kb := 4) (a := P.getLast?) (f := S.head?) (by decide) (by decide) ha1 ha2
  have hLL : LL (up2 (lnkR mr q 2 3 3 4 P.getLast? S.head?) m 2 none) q 2 3 3 4 (P ++ S) := hLL0.congr (by rw [up2_off _ _ _ _ hqm]; exact ⟨rfl, rfl⟩) (fun x hx => by rw [up2_off _ _ _ _ ((hsub x).mp hx).2]; exact ⟨rfl, rfl⟩)
  generalize hmr' : up2 (lnkR mr q 2 3 3 4 P.getLast? S.head?) m 2 none = mr' at hLL ⊢
  generalize hmi' : up2 mi q 1 (mi q 1 - 1) = mi'
  have I1 : ∀ x, x ≠ q → mi' x = mi x := fun x h1 => by rw [← hmi', up2_off _ _ _ _ h1]
  have I2 : ∀ y, y ≠ 1 → mi' q y = mi q y := fun y hy => by rw [← hmi']; simp [up2_ap, hy]
  have I3 : mi' q 1 = mi q 1 - 1 := by rw [← hmi']; simp [up2_ap]
  have I0 : ∀ x, mi' x 0 = mi x 0 := fun x => by
    by_cases e : x = q
    · rw [e]; exact I2 0 (by decide)
    · rw [I1 x e]
  have hnm : ∀ x, tt x ≠ some (.inl 1) → x ≠ q → mr' x = mr x := fun x h1 h2 => by
    have e1 : x ≠ m := fun e => h1 (by rw [e]; exact hm)
    rw [← hmr', up2_off _ _ _ _ e1, g8 x h2 (fun z => h1 (htL x (List.mem_append_left _ (List.mem_of_getLast? z)))) (fun z => h1 (htL x (List.mem_append_right _ (List.mem_cons_of_mem _ (List.mem_of_head? z)))))]
  have Rq : ∀ y, y ≠ 2 → y ≠ 3 → mr' q y = mr q y := fun y h1 h2 => by rw [← hmr', up2_off _ _ _ _ hqm, g7 y h1 h2]
  have R4 : ∀ x ∈ F ++ Us Cs, mr' x 4 = mr x 4 := fun x hx => by
    by_cases e : x = q
    · rw [e]; exact Rq 4 (by decide) (by decide)
    · rw [hnm x (by rw [(f x hx).1]; simp) e]
  have Rm0 : ∀ x, tt x = some (.inl 1) → mr' x 0 = mr x 0 := fun x hx => by
    have e1 : x ≠ q := kne hx hqk (by simp)
    rw [← hmr', up2_ap, if_neg (by simp), g1 x 0 e1 (by decide) (by decide)]
  have Rm2 : ∀ x, tt x = some (.inl 1) → x ≠ m → mr' x 2 = mr x 2 := fun x hx h2 => by
    have e1 : x ≠ q := kne hx hqk (by simp)
    rw [← hmr', up2_off _ _ _ _ h2, g1 x 2 e1 (by decide) (by decide)]
  have hpi : ∀ x, pl x → mi' x = mi x ∧ mi' (io x) = mi (io x) := fun x hx => ⟨I1 x (kne (o x hx).1 hqk (by simp)), I1 _ (kne (o x hx).2.2.1 hqk (by simp))⟩
  have hls : mr' ls = mr ls := hnm ls (by rw [a1]; simp) (Ne.symm hql)
  have hch : mr' ch = mr ch := hnm ch (by rw [a3]; simp) (Ne.symm hqc)
  have hoth : ∀ x ∈ F ++ Us Cs, x ≠ q → ∀ y ∈ LM x, mr' y = mr y ∧ pl y ∧ y ≠ m := fun x hx hxq y hy => by
    rcases List.mem_append.mp hx with z | z
    · rw [g x z] at hy; simp at hy
    · have hy1 := ((k x z).2.2 y).mp hy
      have hyL : y ∉ P ++ m :: S := fun w => by
        have hy2 := (kq3 y).mp w
        exact hxq (j x z q hq (hy1.2.symm.trans hy2.2))
      have hym : y ≠ m := fun e => hyL (by rw [e]; simp)
      have hyq : y ≠ q := kne (o y hy1.1).1 hqk (by simp)
      refine ⟨?_, hy1.1, hym⟩
      rw [← hmr', up2_off _ _ _ _ hym, g8 y hyq (fun w => hyL (List.mem_append_left _ (List.mem_of_getLast? w))) (fun w => hyL (List.mem_append_right _ (List.mem_cons_of_mem _ (List.mem_of_head? w))))]
  have hqF : q ∉ F := fun z => (List.nodup_append.mp d1).2.2 q z q hq rfl
  refine ⟨⟨a1, by rw [hls]; exact a2, a3⟩, fun c0 hc0 => ?_, ?_, d1, d2, by rw [I1 ls (Ne.symm hql)]; exact d3, fun x h0 => ?_, fun x h0 => ?_, fun c0 h0 x h1 => ?_, fun x h1 y h2 e => ?_, fun x h0 => ?_, fun x h0 y hy => ?_, fun x h0 => ?_⟩
  · exact (b c0 hc0).congr (by rw [hch]) (fun x hx => R4 x (List.mem_append_right _ (mem_Us.mpr ⟨c0, hc0, hx⟩)))
  · exact c.congr (by rw [hls]) (fun x hx => R4 x (List.mem_append_left _ hx))
  · obtain ⟨f1, f2, f3⟩ := f x h0
    by_cases e : x = q
    · rw [e, va_up_self]
      refine ⟨hqk, hLL, ?_⟩
      rw [I3, fq3]
      have : (P ++ m :: S).length = (P ++ S).length + 1 := by simp; omega
      rw [this]
      exact nI_pred _
    · rw [va_up_ne _ _ e]
      refine ⟨f1, f2.congr (by rw [hnm x (by rw [f1]; simp) e]; exact ⟨rfl, rfl⟩) (fun y hy => by rw [(hoth x h0 e y hy).1]; exact ⟨rfl, rfl⟩), by rw [I1 x e]; exact f3⟩
  · rw [va_up_ne _ _ (fun (e : x = q) => hqF (e ▸ h0))]; exact g x h0
  · rw [I0]; exact i c0 h0 x h1
  · rw [I0, I0] at e; exact j x h1 y h2 e
  · obtain ⟨k1, k2, k3⟩ := k x h0
    by_cases e : x = q
    · subst e
      rw [va_up_self]
      refine ⟨kq1.rem.congr (fun y hy => ?_), fun z => absurd rfl z, fun y => ?_⟩
      · rw [(hpi y ((kq3 y).mp ((hsub y).mp hy).1).1).2]; exact ⟨rfl, rfl⟩
      · rw [hsub y, kq3 y, I0]
        constructor
        · rintro ⟨⟨z, w⟩, v⟩; exact ⟨⟨z, v⟩, by rw [(hpi y z).1]; exact w⟩
        · rintro ⟨⟨z, v⟩, w⟩; exact ⟨⟨z, by rw [(hpi y z).1] at w; exact w⟩, v⟩
    · rw [va_up_ne _ _ e]
      refine ⟨k1.congr (fun y hy => by rw [(hpi y ((k3 y).mp hy).1).2]; exact ⟨rfl, rfl⟩), fun _ => k2 (fun z => z), fun y => ?_⟩
      rw [I0]
      constructor
      · intro hy
        have h1 := (k3 y).mp hy
        exact ⟨⟨h1.1, (hoth x (List.mem_append_right _ h0) e y hy).2.2⟩, by rw [(hpi y h1.1).1]; exact h1.2⟩
      · rintro ⟨⟨z, v⟩, w⟩; exact (k3 y).mpr ⟨z, by rw [(hpi y z).1] at w; exact w⟩
  · by_cases e : x = q
    · subst e
      rw [va_up_self] at hy
      have h1 := (hsub y).mp hy
      rw [Rm2 y (htL y h1.1) h1.2]
      exact n x hq y (by rw [hL]; exact h1.1)
    · rw [va_up_ne _ _ e] at hy
      rw [(hoth x (List.mem_append_right _ h0) e y hy).1]
      exact n x h0 y hy
  · obtain ⟨o1, o2, o3, y, o4, o5⟩ := o x h0.1
    exact ⟨o1, by rw [Rm0 x o1]; exact o2, o3, y, o4, by rw [I0, (hpi x h0.1).1]; exact o5⟩
theorem LInv.drop {tt : jT} {mi : jI} {mr : jR} {ls ch : Nat} {io : Nat → Nat} {pl : Nat → Prop} {Cs : Nat → List Nat} {F : List Nat} {LM : Nat → List Nat} {q : Nat} {A B : List Nat} (h : LInv tt mi mr ls ch io pl (fun x => x = q) Cs F LM) (hq : q ∈ Us Cs) (hC : Cs (chF (mi q 0)) = A ++ q :: B) (hL : LM q = []) :
    LInv tt (up2 mi ls 2 (mi ls 2 - 1)) (drp mr ls ch (chF (mi q 0)) q A.getLast?) ls ch io pl (fun _ => False) (va_up Cs (chF (mi q 0)) (A ++ B)) (q :: F) LM := by
  obtain ⟨⟨a1, a2, a3⟩, b, c, d1, d2, d3, f, g, i, j, k, n, o⟩ := h
  have hlt := (chF_ok (mi q 0)).2
  have hqk := (f q (List.mem_append_right _ hq)).1
  have hql : q ≠ ls := kne hqk a1 (by simp)
  have hqc : q ≠ ch := kne hqk a3 (by simp)
  have hlc : ls ≠ ch := kne a1 a3 (by simp)
  have hkC : ∀ x ∈ A ++ q :: B, tt x = some (.inl 2) := fun x hx => (f x (List.mem_append_right _ (mem_Us.mpr ⟨_, hlt, by rw [hC]; exact hx⟩))).1
  have hndU : (Us Cs).Nodup := (List.nodup_append.mp d1).2.1
  have hndC : (A ++ q :: B).Nodup := by
    rw [← hC]
    exact flat_nodup _ hndU _ (List.mem_range.mpr hlt)
  have hgl : ∀ z, A.getLast? = some z → z ≠ q ∧ z ≠ ls ∧ z ≠ ch := fun z hz => by
    have hzA : z ∈ A := List.mem_of_getLast? hz
    have hk := hkC z (List.mem_append_left _ hzA)
    exact ⟨fun e => (List.nodup_append.mp hndC).2.2 z hzA q List.mem_cons_self e, kne hk a1 (by simp), kne hk a3 (by simp)⟩
  have hmr : ∃ mr', drp mr ls ch (chF (mi q 0)) q A.getLast? = mr' ∧ (∀ x, x ≠ q → x ≠ ls → x ≠ ch → A.getLast? ≠ some x → mr' x = mr x) ∧ (∀ x y, x ≠ q → x ≠ ls → x ≠ ch → y ≠ 4 → mr' x y = mr x y) ∧ (∀ x, x ≠ q → x ≠ ls → x ≠ ch → mr' x 4 = if A.getLast? = some x then mr q 4 else mr x 4) ∧ (∀ y, y ≠ 4 → mr' q y = mr q y) ∧ mr' q 4 = mr ls 1 ∧ mr' ls 1 = some q ∧ mr' ls 0 = mr ls 0 ∧ (∀ y, y ≠ chF (mi q 0) → mr' ch y = mr ch y) ∧ mr' ch (chF (mi q 0)) = (if A = [] then mr q 4 else mr ch (chF (mi q 0))) := by
    refine ⟨_, rfl, ?_⟩
    cases hg : A.getLast? with
    | none =>
      have hA : A = [] := List.getLast?_eq_none_iff.mp hg
      refine ⟨fun x h1 h2 h3 h4 => ?_, fun x y h1 h2 h3 h4 => ?_, fun x h1 h2 h3 => ?_, fun y hy => ?_, ?_, ?_, ?_, fun y hy => ?_, ?_⟩
      · funext y; simp [drp, up2_ap, *]
      · simp [drp, up2_ap, *]
      · simp [drp, up2_ap, *]
      · simp [drp, up2_ap, *]
      · simp [drp, up2_ap, *]
      · simp [drp, up2_ap]
      · simp [drp, up2_ap, *, Ne.symm hql]
      · simp [drp, up2_ap, *, Ne.symm hqc, Ne.symm hlc]
      · simp [drp, up2_ap, hA, Ne.symm hqc, Ne.symm hlc]
    | some z =>
      obtain ⟨z1, z2, z3⟩ := hgl z hg
      have hA : A ≠ [] := fun e => by rw [e] at hg; simp at hg
      refine ⟨fun x h1 h2 h3 h4 => ?_, fun x y h1 h2 h3 h4 => ?_, fun x h1 h2 h3 => ?_, fun y hy => ?_, ?_, ?_, ?_, fun y hy => ?_, ?_⟩
      · have h5 : x ≠ z := fun e => h4 (by rw [e])
        funext y; simp [drp, up2_ap, *]
      · simp [drp, up2_ap, *]
      · by_cases e : x = z
        · subst e; simp [drp, up2_ap, *]
        · have e2 : ¬ z = x := fun w => e w.symm
          simp [drp, up2_ap, *]
      · simp [drp, up2_ap, *, Ne.symm z1]
      · simp [drp, up2_ap, *, Ne.symm z2]
      · simp [drp, up2_ap]
      · simp [drp, up2_ap, *, Ne.symm hql, Ne.symm z2]
      · simp [drp, up2_ap, *, Ne.symm hqc, Ne.symm hlc, Ne.symm z3]
      · simp [drp, up2_ap, hA, Ne.symm hqc, Ne.symm hlc, Ne.symm z3]
  obtain ⟨mr', emr, R1, R2, R3, R4, R5, R6, R7, R8, R9⟩ := hmr
  rw [emr]
  generalize hmi' : up2 mi ls 2 (mi ls 2 - 1) = mi'
  have I1 : ∀ x, x ≠ ls → mi' x = mi x := fun x h1 => by rw [← hmi', up2_off _ _ _ _ h1]
  have I4 : mi' ls 2 = mi ls 2 - 1 := by rw [← hmi']; simp [up2_ap]
  have hperm : (Us Cs).Perm (q :: Us (va_up Cs (chF (mi q 0)) (A ++ B))) := Us_perm hlt (fun x hx => (va_up_ne _ _ hx).symm) (by rw [va_up_self, hC]; exact List.perm_middle)
  have hperm2 : (q :: F ++ Us (va_up Cs (chF (mi q 0)) (A ++ B))).Perm (F ++ Us Cs) := by
    refine (List.Perm.trans ?_ (hperm.append_left F).symm)
    exact List.perm_middle.symm
  have hU' : ∀ x, x ∈ Us Cs ↔ x = q ∨ x ∈ Us (va_up Cs (chF (mi q 0)) (A ++ B)) := fun x => by rw [hperm.mem_iff, List.mem_cons]
  have hqU : q ∉ Us (va_up Cs (chF (mi q 0)) (A ++ B)) := (List.nodup_cons.mp (hperm.nodup_iff.mp hndU)).1
  have hx : ∀ x ∈ F ++ Us Cs, x ≠ ls ∧ x ≠ ch := fun x hx => ⟨kne (f x hx).1 a1 (by simp), kne (f x hx).1 a3 (by simp)⟩
  have hqF : q ∉ F := fun z => (List.nodup_append.mp d1).2.2 q z q hq rfl
  have hm : ∀ m, pl m → (mi' m = mi m ∧ mr' m = mr m) ∧ mi' (io m) = mi (io m) := fun m h0 => by
    obtain ⟨o1, o2, o3, -⟩ := o m h0
    refine ⟨⟨I1 m (kne o1 a1 (by simp)), R1 m (kne o1 hqk (by simp)) (kne o1 a1 (by simp)) (kne o1 a3 (by simp)) (fun z => ?_)⟩, I1 _ (kne o3 a1 (by simp))⟩
    have := hkC m (List.mem_append_left _ (List.mem_of_getLast? z))
    rw [o1] at this
    cases this
  have hpl : ∀ x ∈ F ++ Us Cs, ∀ m ∈ LM x, pl m := fun x h0 m hm0 => by
    rcases List.mem_append.mp h0 with z | z
    · rw [g x z] at hm0; simp at hm0
    · exact (((k x z).2.2 m).mp hm0).1
  have hglU : ∀ x, A.getLast? = some x → x ∈ Cs (chF (mi q 0)) := fun x hz => by rw [hC]; exact List.mem_append_left _ (List.mem_of_getLast? hz)
  have hcu : ∀ c0, c0 < 256 → ∀ x, x ∈ (va_up Cs (chF (mi q 0)) (A ++ B)) c0 → x ∈ Cs c0 ∧ x ≠ q := fun c0 h0 x h1 => by
    by_cases e : c0 = chF (mi q 0)
    · subst e
      rw [va_up_self] at h1
      rw [hC]
      refine ⟨by simp at h1 ⊢; rcases h1 with z | z <;> simp [z], fun e => ?_⟩
      subst e
      rcases List.mem_append.mp h1 with z | z
      · exact (List.nodup_append.mp hndC).2.2 x z x List.mem_cons_self rfl
      · exact (List.nodup_cons.mp (List.nodup_append.mp hndC).2.1).1 z
    · rw [va_up_ne _ _ e] at h1
      refine ⟨h1, fun w => ?_⟩
      have := i c0 h0 x h1
      rw [w] at this
      exact e this.symm
  refine ⟨⟨a1, R7.trans a2, a3⟩, fun c0 hc0 => ?_, ?_, hperm2.nodup_iff.mpr d1, by rw [hperm2.length_eq]; exact d2, ?_, fun x h0 => ?_, fun x h0 => ?_, fun c0 h0 x h1 => ?_, fun x h1 y h2 e => ?_, fun x h0 => ?_, fun x h0 m hm0 => ?_, fun m h0 => ?_⟩
  · by_cases e : c0 = chF (mi q 0)
    · subst e
      rw [va_up_self]
      have hs := b _ hc0
      rw [hC] at hs
      refine hs.drop hndC (fun hA => by rw [R9, if_pos hA]) (fun hA => by rw [R9, if_neg hA]) (fun x h1 => ?_)
      have h2 := hcu _ hc0 x (by rw [va_up_self]; exact h1)
      have h3 := hx x (List.mem_append_right _ (mem_Us.mpr ⟨_, hc0, h2.1⟩))
      exact R3 x h2.2 h3.1 h3.2
    · rw [va_up_ne _ _ e, R8 c0 e]
      exact (b _ hc0).congr rfl (fun x h1 => by
        have h2 := hcu _ hc0 x (by rw [va_up_ne _ _ e]; exact h1)
        have h3 := hx x (List.mem_append_right _ (mem_Us.mpr ⟨_, hc0, h1⟩))
        rw [R3 x h2.2 h3.1 h3.2, if_neg (fun z => e ((i c0 hc0 x h1).symm.trans (i _ hlt x (hglU x z))))])
  · refine ⟨R6, ?_⟩
    rw [R5]
    exact c.congr rfl (fun x h1 => by
        have h3 := hx x (List.mem_append_left _ h1)
        rw [R3 x (fun e => hqF (e ▸ h1)) h3.1 h3.2, if_neg (fun z => ?_)]
        exact (List.nodup_append.mp d1).2.2 x h1 x (mem_Us.mpr ⟨_, hlt, hglU x z⟩) rfl)
  · have h1 := hperm.length_eq
    rw [I4, d3, h1, List.length_cons]
    exact nI_pred _
  · have h1 : x ∈ F ++ Us Cs := hperm2.mem_iff.mp h0
    obtain ⟨f1, f2, f3⟩ := f x h1
    have h3 := hx x h1
    refine ⟨f1, f2.congr ?_ (fun y hy => by rw [(hm y (hpl x h1 y hy)).1.2]; exact ⟨rfl, rfl⟩), by rw [I1 x h3.1]; exact f3⟩
    by_cases e : x = q
    · rw [e]; exact ⟨R4 2 (by decide), R4 3 (by decide)⟩
    · exact ⟨R2 x 2 e h3.1 h3.2 (by decide), R2 x 3 e h3.1 h3.2 (by decide)⟩
  · rcases List.mem_cons.mp h0 with e | z
    · rw [e]; exact hL
    · exact g x z
  · have h2 := hcu c0 h0 x h1
    rw [I1 x (hx x (List.mem_append_right _ (mem_Us.mpr ⟨_, h0, h2.1⟩))).1]
    exact i c0 h0 x h2.1
  · have z1 := (hU' x).mpr (Or.inr h1)
    have z2 := (hU' y).mpr (Or.inr h2)
    rw [I1 x (hx x (List.mem_append_right _ z1)).1, I1 y (hx y (List.mem_append_right _ z2)).1] at e
    exact j x z1 y z2 e
  · have z1 := (hU' x).mpr (Or.inr h0)
    obtain ⟨k1, k2, k3⟩ := k x z1
    refine ⟨k1.congr (fun y hy => ?_), fun _ => k2 (fun z => hqU (z ▸ h0)), fun m => ?_⟩
    · rw [(hm y ((k3 y).mp hy).1).2]; exact ⟨rfl, rfl⟩
    · rw [k3 m, I1 x (hx x (List.mem_append_right _ z1)).1]
      constructor
      · rintro ⟨h1, h2⟩; exact ⟨h1, by rw [(hm m h1).1.1]; exact h2⟩
      · rintro ⟨h1, h2⟩; exact ⟨h1, by rw [(hm m h1).1.1] at h2; exact h2⟩
  · have z1 := (hU' x).mpr (Or.inr h0)
    rw [(hm m (hpl x (List.mem_append_right _ z1) m hm0)).1.2]; exact n x z1 m hm0
  · obtain ⟨o1, o2, o3, y, o4, o5⟩ := o m h0
    refine ⟨o1, by rw [(hm m h0).1.2]; exact o2, o3, ?_⟩
    rcases (hU' y).mp o4 with e | z
    · exfalso
      have := ((k y o4).2.2 m).mpr ⟨h0, o5.symm⟩
      rw [e, hL] at this
      simp at this
    · exact ⟨y, z, by rw [I1 y (hx y (List.mem_append_right _ o4)).1, (hm m h0).1.1]; exact o5⟩
end
section
/-! CONTRACTS OVER THE LINES' INVARIANT -/
/-- kinds that the lines are made of -/
def lnK (q : Nat ⊕ (Nat × Nat)) : Bool := match q with
  | .inl 1 => true
  | .inl 2 => true
  | .inl 3 => true
  | .inr (2, _) => true
  | _ => false
/-- what the lines' methods leave as it was -/
def FrL (tt : jT) (mi : jI) (mr : jR) (mi' : jI) (mr' : jR) : Prop := (∀ a q, tt a = some q → lnK q = false → mi' a = mi a ∧ mr' a = mr a) ∧ ∀ m, tt m = some (.inl 1) → mi' m = mi m ∧ mr' m 0 = mr m 0
theorem FrL.refl {tt : jT} {mi : jI} {mr : jR} : FrL tt mi mr mi mr := ⟨fun _ _ _ _ => ⟨rfl, rfl⟩, fun _ _ => ⟨rfl, rfl⟩⟩
theorem FrL.trans {tt : jT} {mi mi1 mi2 : jI} {mr mr1 mr2 : jR} (h1 : FrL tt mi mr mi1 mr1) (h2 : FrL tt mi1 mr1 mi2 mr2) : FrL tt mi mr mi2 mr2 := ⟨fun a q ha hq => ⟨(h2.1 a q ha hq).1.trans (h1.1 a q ha hq).1, (h2.1 a q ha hq).2.trans (h1.1 a q ha hq).2⟩, fun m hm => ⟨(h2.2 m hm).1.trans (h1.2 m hm).1, (h2.2 m hm).2.trans (h1.2 m hm).2⟩⟩
theorem FrL.puti {tt : jT} {mi : jI} {mr : jR} {a k : Nat} {x : Int32} (h : tt a = some (.inl 2) ∨ tt a = some (.inl 3)) : FrL tt mi mr (up2 mi a k x) mr := by
  refine ⟨fun b q hb hq => ⟨up2_off _ _ _ _ (fun e => ?_), rfl⟩, fun m hm => ⟨up2_off _ _ _ _ (fun e => ?_), rfl⟩⟩
  · rw [e] at hb
    rcases h with h | h <;> (rw [h] at hb; cases hb; simp [lnK] at hq)
  · rw [e] at hm
    rcases h with h | h <;> (rw [h] at hm; cases hm)
theorem FrL.putr {tt : jT} {mi : jI} {mr : jR} {a k : Nat} {x : Option Nat} (h : tt a = some (.inl 2) ∨ tt a = some (.inl 3) ∨ tt a = some (.inr (2, 256)) ∨ (tt a = some (.inl 1) ∧ k ≠ 0)) : FrL tt mi mr mi (up2 mr a k x) := by
  refine ⟨fun b q hb hq => ⟨rfl, up2_off _ _ _ _ (fun e => ?_)⟩, fun m hm => ⟨rfl, ?_⟩⟩
  · rw [e] at hb
    rcases h with h | h | h | ⟨h, -⟩ <;> (rw [h] at hb; cases hb; simp [lnK] at hq)
  · rw [up2_ap, if_neg]
    rintro ⟨e, e2⟩
    rw [e] at hm
    rcases h with h | h | h | ⟨h, h2⟩
    · rw [h] at hm; cases hm
    · rw [h] at hm; cases hm
    · rw [h] at hm; cases hm
    · exact h2 e2.symm
theorem LInv.full {tt : jT} {mi : jI} {mr : jR} {ls ch : Nat} {io : Nat → Nat} {pl : Nat → Prop} {Cs : Nat → List Nat} {F : List Nat} {LM : Nat → List Nat} {q : Nat} (h : LInv tt mi mr ls ch io pl (fun x => x = q) Cs F LM) (hL : LM q ≠ []) : LInv tt mi mr ls ch io pl (fun _ => False) Cs F LM := by
  obtain ⟨a, b, c, d1, d2, d3, f, g, i, j, k, n, o⟩ := h
  refine ⟨a, b, c, d1, d2, d3, f, g, i, j, fun x hx => ⟨(k x hx).1, fun _ => ?_, (k x hx).2.2⟩, n, o⟩
  by_cases e : x = q
  · rw [e]; exact hL
  · exact (k x hx).2.1 e
/-- there is a free line while a member is out of the lines -/
theorem LInv.room {tt : jT} {mi : jI} {mr : jR} {ls ch : Nat} {io : Nat → Nat} {pl : Nat → Prop} {Cs : Nat → List Nat} {F : List Nat} {LM : Nat → List Nat} (h : LInv tt mi mr ls ch io pl (fun _ => False) Cs F LM) {AM : List Nat} (hA : ∀ m, pl m → m ∈ AM) (hlen : AM.length ≤ 1600) {m : Nat} (hm : m ∈ AM) (hnp : ¬ pl m) : ∃ q F', F = q :: F' := by
  obtain ⟨a, b, c, d1, d2, d3, f, g, i, j, k, n, o⟩ := h
  cases F with
  | cons q F' => exact ⟨q, F', rfl⟩
  | nil =>
    exfalso
    rw [List.nil_append] at d1 d2
    have hf : ∀ q ∈ Us Cs, (LM q).head?.getD 0 ∈ LM q := fun q hq => by
      cases e : LM q with
      | nil => exact absurd e ((k q hq).2.1 (fun z => z))
      | cons y L => simp
    have h1 : ((Us Cs).map (fun q => (LM q).head?.getD 0)).Nodup := nodup_map_inj d1 (fun x hx y hy e => by
      have e1 := (((k x hx).2.2 _).mp (hf x hx)).2
      have e2 := (((k y hy).2.2 _).mp (hf y hy)).2
      rw [e] at e1
      exact j x hx y hy (e1.symm.trans e2))
    have hpl : ∀ y ∈ (Us Cs).map (fun q => (LM q).head?.getD 0), pl y := fun y hy => by
      obtain ⟨q, hq, e⟩ := List.mem_map.mp hy
      rw [← e]
      exact (((k q hq).2.2 _).mp (hf q hq)).1
    have h2 : (m :: (Us Cs).map (fun q => (LM q).head?.getD 0)).Nodup := List.nodup_cons.mpr ⟨fun z => hnp (hpl m z), h1⟩
    have h3 := nodup_le (B := AM) h2 (fun y hy => by
      rcases List.mem_cons.mp hy with e | z
      · rw [e]; exact hm
      · exact hA y (hpl y z))
    rw [List.length_cons, List.length_map] at h3
    omega
/-- Lines.need(p) -/
theorem c_needL (l : Launch) (D : jD) (N0 : Nat) {tt : jT} {mi : jI} {mr : jR} {ls ch : Nat} {io : Nat → Nat} {pl : Nat → Prop} {Cs : Nat → List Nat} {F : List Nat} {LM : Nat → List Nat} (h : LInv tt mi mr ls ch io pl (fun _ => False) Cs F LM) (p : Int32) (hr : ∃ q F', F = q :: F') :
    Ct l D N0 2 0 0 y_Lines_need b_Lines_need 3 (some (.object "OrderDesk$Line")) [va_rf (some ls), .int p] tt mi mr (fun v tt' mi' mr' => tt' = tt ∧ FrL tt mi mr mi' mr' ∧ ∃ (q : Nat) (Cs' : Nat → List Nat) (F' : List Nat), v = some (va_rf (some q)) ∧ LInv tt mi' mr' ls ch io pl (fun x => x = q) Cs' F' LM ∧ q ∈ Us Cs' ∧ mi' q 0 = p) := by
  have hf := h.find p
  have h1 := h.1
  have h2 := h.2.1 _ (chF_ok p).2
  cases hq : (Cs (chF p)).find? (fun l => decide (mi l 0 = p)) with
  | some q =>
    refine (c_Lines_need_old l D N0 p h1.1 h1.2.1 h2 hq).imp (fun v t i r _ hp => ?_)
    obtain ⟨rfl, rfl, rfl, rfl⟩ := hp
    exact ⟨rfl, FrL.refl, q, Cs, F, rfl, h.congr (fun _ _ _ => ⟨rfl, rfl⟩) (fun _ _ => ⟨rfl, rfl⟩) (fun _ => Iff.rfl) (fun _ z => z.elim), (hf.1 q hq).1, (hf.1 q hq).2⟩
  | none =>
    obtain ⟨q, F', e⟩ := hr
    subst e
    have hfree : mr ls 1 = some q := h.2.2.1.1
    have tq := (h.2.2.2.2.2.2.1 q (by simp)).1
    refine (c_Lines_need_new l D N0 p h1.1 h1.2.1 h2 hq hfree).imp (fun v t i r _ hp => ?_)
    obtain ⟨rfl, rfl, rfl, rfl⟩ := hp
    refine ⟨rfl, ?_, q, _, F', rfl, h.need (hf.2.1 hq), mem_Us.mpr ⟨_, (chF_ok p).2, by rw [va_up_self]; exact List.mem_cons_self⟩, ?_⟩
    · exact (FrL.puti (Or.inl tq)).trans ((FrL.puti (Or.inr h1.1)).trans ((FrL.putr (Or.inr (Or.inl h1.1))).trans ((FrL.putr (Or.inl tq)).trans (FrL.putr (Or.inr (Or.inr (Or.inl h1.2.2)))))))
    · have : q ≠ ls := kne tq h1.1 (by simp)
      simp [up2_ap, this]
/-- Line.insert(m) -/
theorem c_insertL (l : Launch) (D : jD) (N0 : Nat) {tt : jT} {mi : jI} {mr : jR} {ls ch : Nat} {io : Nat → Nat} {pl : Nat → Prop} {Cs : Nat → List Nat} {F : List Nat} {LM : Nat → List Nat} {q m : Nat} (h : LInv tt mi mr ls ch io pl (fun x => x = q) Cs F LM) (hq : q ∈ Us Cs) (hpos : mi q 0 = mi m 1) (hnp : ¬ pl m) (hm : tt m = some (.inl 1)) (him : mr m 0 = some (io m)) (htim : tt (io m) = some (.inl 0)) (hkey : ∀ x, pl x → mi x 1 = mi m 1 → mi (io x) 4 ≠ mi (io m) 4) :
    Ct l D N0 1 0 0 y_Line_insert b_Line_insert 3 none [va_rf (some q), va_rf (some m)] tt mi mr (fun v tt' mi' mr' => v = none ∧ tt' = tt ∧ FrL tt mi mr mi' mr' ∧ ∃ LM', LInv tt mi' mr' ls ch io (fun x => pl x ∨ x = m) (fun _ => False) Cs F LM') := by
  obtain ⟨P, S, e, hS, hP⟩ := split_by (fun x => bef mi (io m) (io x)) (LM q)
  obtain ⟨fq1, fq2, fq3⟩ := h.2.2.2.2.2.2.1 q (List.mem_append_right _ hq)
  have kq3 := (h.2.2.2.2.2.2.2.2.2.2.1 q hq).2.2
  have o := h.2.2.2.2.2.2.2.2.2.2.2.2
  rw [e] at fq2 kq3
  have hpl : ∀ x ∈ P ++ S, pl x := fun x hx => ((kq3 x).mp hx).1
  have hmL : m ∉ P ++ S := fun z => hnp (hpl m z)
  have htP : ∀ x ∈ P ++ S, tt x = some (.inl 1) := fun x hx => (o x (hpl x hx)).1
  refine (c_Line_insert l D N0 fq1 hm him fq2.2.1 htP (fun x hx => (o x (hpl x hx)).2.1) (fun A x B eq => (fq2.2.2 A x B eq).1) (fun z => ?_) (fun x z => ?_) (fun z => hmL (List.mem_append_left _ (List.mem_of_getLast? z))) hS hP).imp (fun v t i r _ hp => ?_)
  · rw [List.getLast?_eq_none_iff] at z
    rw [fq2.1, z]; rfl
  · rcases List.eq_nil_or_concat P with e1 | ⟨L, c, e1⟩
    · rw [e1] at z; simp at z
    · rw [List.concat_eq_append] at e1
      rw [e1, List.getLast?_concat] at z
      cases z
      exact (fq2.2.2 L x S (by rw [e1]; simp)).2
  · obtain ⟨rfl, rfl, rfl, rfl⟩ := hp
    refine ⟨rfl, rfl, ?_, _, h.insert (fun x z => z) hq hpos hnp hm him htim hkey e hS hP⟩
    refine (FrL.puti (k := 1) (x := mi q 1 + 1) (Or.inl fq1)).trans ((FrL.putr (k := 2) (x := some q) (Or.inr (Or.inr (Or.inr ⟨hm, by decide⟩)))).trans ?_)
    unfold lnkI
    refine (FrL.putr (k := 3) (x := P.getLast?) (Or.inr (Or.inr (Or.inr ⟨hm, by decide⟩)))).trans ((FrL.putr (k := 4) (x := S.head?) (Or.inr (Or.inr (Or.inr ⟨hm, by decide⟩)))).trans ?_)
    cases hg : P.getLast? with
    | none =>
      cases hs : S.head? with
      | none => exact (FrL.putr (Or.inl fq1)).trans (FrL.putr (Or.inl fq1))
      | some y => exact (FrL.putr (Or.inl fq1)).trans (FrL.putr (Or.inr (Or.inr (Or.inr ⟨htP y (List.mem_append_right _ (List.mem_of_head? hs)), by decide⟩))))
    | some x =>
      have tx := htP x (List.mem_append_left _ (List.mem_of_getLast? hg))
      cases hs : S.head? with
      | none => exact (FrL.putr (Or.inr (Or.inr (Or.inr ⟨tx, by decide⟩)))).trans (FrL.putr (Or.inl fq1))
      | some y => exact (FrL.putr (Or.inr (Or.inr (Or.inr ⟨tx, by decide⟩)))).trans (FrL.putr (Or.inr (Or.inr (Or.inr ⟨htP y (List.mem_append_right _ (List.mem_of_head? hs)), by decide⟩))))
/-- a placed member's line -/
theorem LInv.lineOf {tt : jT} {mi : jI} {mr : jR} {ls ch : Nat} {io : Nat → Nat} {pl E : Nat → Prop} {Cs : Nat → List Nat} {F : List Nat} {LM : Nat → List Nat} (h : LInv tt mi mr ls ch io pl E Cs F LM) {m : Nat} (hm : pl m) : ∃ q P S, q ∈ Us Cs ∧ mr m 2 = some q ∧ mi q 0 = mi m 1 ∧ LM q = P ++ m :: S ∧ tt q = some (.inl 2) := by
  obtain ⟨a, b, c, d1, d2, d3, f, g, i, j, k, n, o⟩ := h
  obtain ⟨o1, o2, o3, q, o4, o5⟩ := o m hm
  have hmL : m ∈ LM q := ((k q o4).2.2 m).mpr ⟨hm, o5.symm⟩
  obtain ⟨P, S, e⟩ := List.append_of_mem hmL
  exact ⟨q, P, S, o4, n q o4 m hmL, o5, e, (f q (List.mem_append_right _ o4)).1⟩
/-- Line.remove(m) -/
theorem c_removeL (l : Launch) (D : jD) (N0 : Nat) {tt : jT} {mi : jI} {mr : jR} {ls ch : Nat} {io : Nat → Nat} {pl : Nat → Prop} {Cs : Nat → List Nat} {F : List Nat} {LM : Nat → List Nat} {q m : Nat} {P S : List Nat} (h : LInv tt mi mr ls ch io pl (fun _ => False) Cs F LM) (hq : q ∈ Us Cs) (hL : LM q = P ++ m :: S) :
    Ct l D N0 0 0 0 y_Line_remove b_Line_remove 2 none [va_rf (some q), va_rf (some m)] tt mi mr (fun v tt' mi' mr' => v = none ∧ tt' = tt ∧ FrL tt mi mr mi' mr' ∧ ∃ LM', LInv tt mi' mr' ls ch io (fun x => pl x ∧ x ≠ m) (fun x => x = q) Cs F LM' ∧ LM' q = P ++ S) := by
  obtain ⟨fq1, fq2, fq3⟩ := h.2.2.2.2.2.2.1 q (List.mem_append_right _ hq)
  obtain ⟨kq1, kq2, kq3⟩ := h.2.2.2.2.2.2.2.2.2.2.1 q hq
  have o := h.2.2.2.2.2.2.2.2.2.2.2.2
  rw [hL] at fq2 kq1 kq3
  have htP : ∀ x ∈ P ++ m :: S, tt x = some (.inl 1) := fun x hx => (o x ((kq3 x).mp hx).1).1
  have hm := htP m (by simp)
  have hat := fq2.at
  have hnd := kq1.nodup
  refine (c_Line_remove l D N0 fq1 hm (fun z => ?_)).imp (fun v t i r _ hp => ?_)
  · rw [hat.1] at z
    exact (List.nodup_append.mp hnd).2.2 m (List.mem_of_getLast? z) m List.mem_cons_self rfl
  · obtain ⟨rfl, rfl, rfl, rfl⟩ := hp
    rw [hat.1, hat.2]
    refine ⟨rfl, rfl, ?_, _, h.remove hq hL, va_up_self _ _ _⟩
    refine (FrL.puti (k := 1) (x := mi q 1 - 1) (Or.inl fq1)).trans (FrL.trans (mr1 := lnkR mr q 2 3 3 4 P.getLast? S.head?) ?_ (FrL.putr (Or.inr (Or.inr (Or.inr ⟨hm, by decide⟩)))))
    unfold lnkR
    cases hg : P.getLast? with
    | none =>
      cases hs : S.head? with
      | none => exact (FrL.putr (Or.inl fq1)).trans (FrL.putr (Or.inl fq1))
      | some y => exact (FrL.putr (Or.inl fq1)).trans (FrL.putr (Or.inr (Or.inr (Or.inr ⟨htP y (List.mem_append_right _ (List.mem_cons_of_mem _ (List.mem_of_head? hs))), by decide⟩))))
    | some x =>
      have tx := htP x (List.mem_append_left _ (List.mem_of_getLast? hg))
      cases hs : S.head? with
      | none => exact (FrL.putr (Or.inr (Or.inr (Or.inr ⟨tx, by decide⟩)))).trans (FrL.putr (Or.inl fq1))
      | some y => exact (FrL.putr (Or.inr (Or.inr (Or.inr ⟨tx, by decide⟩)))).trans (FrL.putr (Or.inr (Or.inr (Or.inr ⟨htP y (List.mem_append_right _ (List.mem_cons_of_mem _ (List.mem_of_head? hs))), by decide⟩))))
/-- Lines.drop(q) -/
theorem c_dropL (l : Launch) (D : jD) (N0 : Nat) {tt : jT} {mi : jI} {mr : jR} {ls ch : Nat} {io : Nat → Nat} {pl : Nat → Prop} {Cs : Nat → List Nat} {F : List Nat} {LM : Nat → List Nat} {q : Nat} (h : LInv tt mi mr ls ch io pl (fun x => x = q) Cs F LM) (hq : q ∈ Us Cs) (hL : LM q = []) :
    Ct l D N0 1 0 0 y_Lines_drop b_Lines_drop 4 none [va_rf (some ls), va_rf (some q)] tt mi mr (fun v tt' mi' mr' => v = none ∧ tt' = tt ∧ FrL tt mi mr mi' mr' ∧ ∃ (Cs' : Nat → List Nat) (F' : List Nat), LInv tt mi' mr' ls ch io pl (fun _ => False) Cs' F' LM) := by
  have h1 := h.1
  have fq1 := (h.2.2.2.2.2.2.1 q (List.mem_append_right _ hq)).1
  obtain ⟨c0, hc0, hqc⟩ := mem_Us.mp hq
  have hi := h.2.2.2.2.2.2.2.2.1 c0 hc0 q hqc
  rw [← hi] at hqc
  obtain ⟨A, B, e, hnA⟩ : ∃ A B, Cs (chF (mi q 0)) = A ++ q :: B ∧ q ∉ A := by
    obtain ⟨A, B, e⟩ := List.append_of_mem hqc
    refine ⟨A, B, e, fun z => ?_⟩
    have hnd := flat_nodup _ (List.nodup_append.mp h.2.2.2.1).2.1 _ (List.mem_range.mpr (chF_ok (mi q 0)).2)
    rw [e] at hnd
    exact (List.nodup_append.mp hnd).2.2 q z q List.mem_cons_self rfl
  have hs := h.2.1 _ (chF_ok (mi q 0)).2
  rw [e] at hs
  have tz : ∀ z, A.getLast? = some z → tt z = some (.inl 2) := fun z hz => (h.2.2.2.2.2.2.1 z (List.mem_append_right _ (mem_Us.mpr ⟨_, (chF_ok (mi q 0)).2, by rw [e]; exact List.mem_append_left _ (List.mem_of_getLast? hz)⟩))).1
  refine (c_Lines_drop l D N0 h1.1 fq1 h1.2.1 hs hnA).imp (fun v t i r _ hp => ?_)
  obtain ⟨rfl, rfl, rfl, rfl⟩ := hp
  refine ⟨rfl, rfl, ?_, _, _, h.drop hq e hL⟩
  refine (FrL.puti (k := 2) (x := mi ls 2 - 1) (Or.inr h1.1)).trans ?_
  unfold drp
  cases hg : A.getLast? with
  | none => exact (FrL.putr (Or.inr (Or.inr (Or.inl h1.2.2)))).trans ((FrL.putr (Or.inl fq1)).trans (FrL.putr (Or.inr (Or.inl h1.1))))
  | some z => exact (FrL.putr (Or.inl (tz z hg))).trans ((FrL.putr (Or.inl fq1)).trans (FrL.putr (Or.inr (Or.inl h1.1))))
end
section
/-! THE DESK'S INVARIANT over an abstract state M: who is queued, priorities, arrivals, what each takes from (in its row), how many arrivals -/
abbrev Mt : Type := (Nat → Bool) × (Nat → Int32) × (Nat → Int32) × (Nat → List Int32) × Nat
def qdM (M : Mt) : Nat → Bool := M.1
def prM (M : Mt) : Nat → Int32 := M.2.1
def arM (M : Mt) : Nat → Int32 := M.2.2.1
def tkM (M : Mt) : Nat → List Int32 := M.2.2.2.1
def nM (M : Mt) : Nat := M.2.2.2.2
def MI (M : Mt) : Prop := (∀ i, i < 200 → (tkM M i).Nodup ∧ (tkM M i).length ≤ 8 ∧ ∀ p ∈ tkM M i, posF p = true) ∧ (∀ i, i < 200 → qdM M i = true → ∃ k, k ≤ nM M ∧ arM M i = nI k) ∧ (∀ i j, i < 200 → j < 200 → qdM M i = true → qdM M j = true → arM M i = arM M j → i = j)
/-- the members that stand in lines -/
def plM (M : Mt) (ms : Nat → List Nat) (m : Nat) : Prop := ∃ i, i < 200 ∧ qdM M i = true ∧ m ∈ (ms i).take (tkM M i).length
def Sh (tt : jT) (mi : jI) (mr : jR) (dk od ia ls : Nat) (it ma io : Nat → Nat) (ms : Nat → List Nat) : Prop :=
  (tt dk = some (.inl 5) ∧ mr dk 0 = some od ∧ tt od = some (.inl 4) ∧ mr od 0 = some ia ∧ mr od 1 = some ls ∧ tt ia = some (.inr (0, 200))) ∧
  ∀ i, i < 200 → mr ia i = some (it i) ∧ tt (it i) = some (.inl 0) ∧ mi (it i) 0 = nI i ∧ mr (it i) 1 = some (ma i) ∧ tt (ma i) = some (.inr (1, 8)) ∧ rowM mr (ma i) (ms i) ∧ (ms i).Nodup ∧ ∀ m ∈ ms i, tt m = some (.inl 1) ∧ mr m 0 = some (it i) ∧ io m = it i
def Vl (mi : jI) (od : Nat) (it : Nat → Nat) (ms : Nat → List Nat) (M : Mt) : Prop :=
  mi od 5 = nI (nM M) ∧ ∀ i, i < 200 → mi (it i) 5 = bI (qdM M i) ∧ mi (it i) 3 = prM M i ∧ mi (it i) 4 = arM M i ∧ mi (it i) 2 = nI (tkM M i).length ∧ ((ms i).take (tkM M i).length).map (fun m => mi m 1) = tkM M i
def Od (mi : jI) (mr : jR) (od : Nat) (it : Nat → Nat) (OA : List Nat) (M : Mt) : Prop :=
  LL mr od 2 3 6 7 OA ∧ mi od 4 = nI OA.length ∧ Srt mi id OA ∧ ∀ a, a ∈ OA ↔ ∃ i, i < 200 ∧ a = it i ∧ qdM M i = true
/-- THE DESK holds M -/
def Dk (tt : jT) (mi : jI) (mr : jR) (dk od ia ls ch : Nat) (it ma io : Nat → Nat) (M : Mt) : Prop := ∃ (ms : Nat → List Nat) (OA : List Nat) (Cs : Nat → List Nat) (F : List Nat) (LM : Nat → List Nat),
  Sh tt mi mr dk od ia ls it ma io ms ∧ Vl mi od it ms M ∧ Od mi mr od it OA M ∧ LInv tt mi mr ls ch io (plM M ms) (fun _ => False) Cs F LM
/-- kinds of the model's cells -/
def mK (q : Nat ⊕ (Nat × Nat)) : Bool := match q with
  | .inl 6 => true
  | .inr (3, _) => true
  | .inr (4, _) => true
  | _ => false
/-- the model's cells stay -/
def FrM (tt : jT) (mi : jI) (mr : jR) (mi' : jI) (mr' : jR) : Prop := ∀ a q, tt a = some q → mK q = true → mi' a = mi a ∧ mr' a = mr a
theorem FrM.refl {tt : jT} {mi : jI} {mr : jR} : FrM tt mi mr mi mr := fun _ _ _ _ => ⟨rfl, rfl⟩
theorem FrM.trans {tt : jT} {mi mi1 mi2 : jI} {mr mr1 mr2 : jR} (h1 : FrM tt mi mr mi1 mr1) (h2 : FrM tt mi1 mr1 mi2 mr2) : FrM tt mi mr mi2 mr2 := fun a q ha hq => ⟨(h2 a q ha hq).1.trans (h1 a q ha hq).1, (h2 a q ha hq).2.trans (h1 a q ha hq).2⟩
theorem mK_lnK {q : Nat ⊕ (Nat × Nat)} (h : mK q = true) : lnK q = false := by
  unfold mK at h
  split at h <;> first | rfl | cases h
theorem FrL.M {tt : jT} {mi mi' : jI} {mr mr' : jR} (h : FrL tt mi mr mi' mr') : FrM tt mi mr mi' mr' := fun a q ha hq => h.1 a q ha (mK_lnK hq)
theorem FrM.puti {tt : jT} {mi : jI} {mr : jR} {a k : Nat} {x : Int32} {q : Nat ⊕ (Nat × Nat)} (h : tt a = some q) (hq : mK q = false) : FrM tt mi mr (up2 mi a k x) mr := fun b p hb hp => ⟨up2_off _ _ _ _ (fun e => by rw [e, h] at hb; cases hb; rw [hq] at hp; cases hp), rfl⟩
theorem FrM.putr {tt : jT} {mi : jI} {mr : jR} {a k : Nat} {x : Option Nat} {q : Nat ⊕ (Nat × Nat)} (h : tt a = some q) (hq : mK q = false) : FrM tt mi mr mi (up2 mr a k x) := fun b p hb hp => ⟨rfl, up2_off _ _ _ _ (fun e => by rw [e, h] at hb; cases hb; rw [hq] at hp; cases hp)⟩
theorem Sh.inj {tt : jT} {mi : jI} {mr : jR} {dk od ia ls : Nat} {it ma io : Nat → Nat} {ms : Nat → List Nat} (h : Sh tt mi mr dk od ia ls it ma io ms) {i j : Nat} (hi : i < 200) (hj : j < 200) (e : it i = it j) : i = j := by
  have h1 := (h.2 i hi).2.2.1
  have h2 := (h.2 j hj).2.2.1
  rw [e, h2, nI_eq (by omega) (by omega)] at h1
  exact h1.symm
theorem Sh.dis {tt : jT} {mi : jI} {mr : jR} {dk od ia ls : Nat} {it ma io : Nat → Nat} {ms : Nat → List Nat} (h : Sh tt mi mr dk od ia ls it ma io ms) {i j m : Nat} (hi : i < 200) (hj : j < 200) (h1 : m ∈ ms i) (h2 : m ∈ ms j) : i = j := by
  have e1 := ((h.2 i hi).2.2.2.2.2.2.2 m h1).2.2
  have e2 := ((h.2 j hj).2.2.2.2.2.2.2 m h2).2.2
  exact h.inj hi hj (e1.symm.trans e2)
theorem Sh.len {tt : jT} {mi : jI} {mr : jR} {dk od ia ls : Nat} {it ma io : Nat → Nat} {ms : Nat → List Nat} (h : Sh tt mi mr dk od ia ls it ma io ms) : ((List.range 200).flatMap ms).length = 1600 := by
  have : ∀ R : List Nat, (∀ i ∈ R, i < 200) → (R.flatMap ms).length = 8 * R.length := by
    intro R
    induction R with
    | nil => intro _; rfl
    | cons x R ih =>
      intro hR
      rw [List.flatMap_cons, List.length_append, ih (fun i hi => hR i (List.mem_cons_of_mem _ hi)), (h.2 x (hR x List.mem_cons_self)).2.2.2.2.2.1.1, List.length_cons]
      omega
  rw [this _ (fun i hi => List.mem_range.mp hi), List.length_range]
theorem mem_AM {ms : Nat → List Nat} {i m : Nat} (hi : i < 200) (hm : m ∈ ms i) : m ∈ (List.range 200).flatMap ms := List.mem_flatMap.mpr ⟨i, List.mem_range.mpr hi, hm⟩
theorem plM.AM {M : Mt} {ms : Nat → List Nat} {m : Nat} (h : plM M ms m) : m ∈ (List.range 200).flatMap ms := by
  obtain ⟨i, hi, -, hm⟩ := h
  exact mem_AM hi (List.mem_of_mem_take hm)
/-- the shape under changes -/
theorem Sh.congr {tt : jT} {mi mi' : jI} {mr mr' : jR} {dk od ia ls : Nat} {it ma io : Nat → Nat} {ms : Nat → List Nat} (h : Sh tt mi mr dk od ia ls it ma io ms) (h1 : mr' dk 0 = mr dk 0) (h2 : mr' od 0 = mr od 0 ∧ mr' od 1 = mr od 1) (h3 : mr' ia = mr ia) (h4 : ∀ i, i < 200 → mi' (it i) 0 = mi (it i) 0 ∧ mr' (it i) 1 = mr (it i) 1 ∧ mr' (ma i) = mr (ma i)) (h5 : ∀ i, i < 200 → ∀ m ∈ ms i, mr' m 0 = mr m 0) : Sh tt mi' mr' dk od ia ls it ma io ms := by
  obtain ⟨⟨a1, a2, a3, a4, a5, a6⟩, b⟩ := h
  refine ⟨⟨a1, h1.trans a2, a3, h2.1.trans a4, h2.2.trans a5, a6⟩, fun i hi => ?_⟩
  obtain ⟨b1, b2, b3, b4, b5, b6, b7, b8⟩ := b i hi
  refine ⟨by rw [h3]; exact b1, b2, (h4 i hi).1.trans b3, (h4 i hi).2.1.trans b4, b5, ⟨b6.1, fun k hk => by rw [(h4 i hi).2.2]; exact b6.2 k hk⟩, b7, fun m hm => ?_⟩
  obtain ⟨c1, c2, c3⟩ := b8 m hm
  exact ⟨c1, (h5 i hi m hm).trans c2, c3⟩
theorem Od.a {mi : jI} {mr : jR} {od : Nat} {it : Nat → Nat} {OA : List Nat} {M : Mt} (h : Od mi mr od it OA M) {tt : jT} {dk ia ls : Nat} {ma io : Nat → Nat} {ms : Nat → List Nat} (hS : Sh tt mi mr dk od ia ls it ma io ms) {a : Nat} (ha : a ∈ OA) : tt a = some (.inl 0) := by
  obtain ⟨i, hi, e, -⟩ := (h.2.2.2 a).mp ha
  rw [e]; exact (hS.2 i hi).2.1
/-- M behind an arrival of item i -/
def comeM (M : Mt) (i : Nat) (p : Int32) : Mt := (va_up (qdM M) i true, va_up (prM M) i p, va_up (arM M) i (nI (nM M + 1)), tkM M, nM M + 1)
/-- M behind item i's going, its row stays -/
def exitM (M : Mt) (i : Nat) : Mt := (va_up (qdM M) i false, prM M, arM M, tkM M, nM M)
def rowTo (M : Mt) (i : Nat) (r : List Int32) : Mt := (qdM M, prM M, arM M, va_up (tkM M) i r, nM M)
theorem take_succ_mem {ms : List Nat} {k m x : Nat} (hm : ms[k]? = some m) : x ∈ ms.take (k + 1) ↔ x ∈ ms.take k ∨ x = m := by
  rw [List.take_add_one, hm]
  simp
theorem not_mem_take {ms : List Nat} {k m : Nat} (hn : ms.Nodup) (hm : ms[k]? = some m) : m ∉ ms.take k := by
  intro h
  obtain ⟨j, hj⟩ := List.getElem?_of_mem h
  rw [List.getElem?_take] at hj
  split at hj
  next hlt =>
    have hl := (List.getElem?_eq_some_iff.mp hm).1
    have hl2 := (List.getElem?_eq_some_iff.mp hj).1
    have e1 := (List.getElem?_eq_some_iff.mp hm).2
    have e2 := (List.getElem?_eq_some_iff.mp hj).2
    have := (List.getElem_inj (i := j) (j := k) (h₀ := hl2) (h₁ := hl) hn).mp (e2.trans e1.symm)
    omega
  next => cases hj
theorem plM_out {tt : jT} {mi : jI} {mr : jR} {dk od ia ls : Nat} {it ma io : Nat → Nat} {ms : Nat → List Nat} (h : Sh tt mi mr dk od ia ls it ma io ms) {M : Mt} {i m : Nat} (hi : i < 200) (hq : qdM M i = false) (hm : m ∈ ms i) : ¬ plM M ms m := by
  rintro ⟨j, hj, hq2, hm2⟩
  have := h.dis hi hj hm (List.mem_of_mem_take hm2)
  rw [← this, hq] at hq2
  cases hq2
/-- positions in an item's row differ -/
theorem row_pos {mi : jI} {ms : List Nat} {tk : List Int32} {n : Nat} (h : (ms.take n).map (fun m => mi m 1) = tk) (hn : tk.Nodup) {k m x : Nat} (hk : k < n) (hm : ms[k]? = some m) (hx : x ∈ ms.take n) (e : mi x 1 = mi m 1) : x = m := by
  obtain ⟨j, hj⟩ := List.getElem?_of_mem hx
  have hk2 : (ms.take n)[k]? = some m := by rw [List.getElem?_take_of_lt hk]; exact hm
  have e1 : tk[j]? = some (mi x 1) := by rw [← h, List.getElem?_map, hj]; rfl
  have e2 : tk[k]? = some (mi m 1) := by rw [← h, List.getElem?_map, hk2]; rfl
  rw [e] at e1
  have hl1 := (List.getElem?_eq_some_iff.mp e1).1
  have hl2 := (List.getElem?_eq_some_iff.mp e2).1
  have := (List.getElem_inj (i := j) (j := k) (h₀ := hl1) (h₁ := hl2) hn).mp ((List.getElem?_eq_some_iff.mp e1).2.trans (List.getElem?_eq_some_iff.mp e2).2.symm)
  rw [this, hk2] at hj
  exact (Option.some.inj hj).symm
end
section
/-! PLAIN LAWS 5: what Orders.enter does to the invariant -/
def enterI (mi : jI) (od a : Nat) (p : Int32) (n : Nat) : jI := up2 (up2 (up2 (up2 mi od 5 (mi od 5 + 1)) a 3 p) a 4 (nI (n + 1))) a 5 1
theorem enterI_off {mi : jI} {od a : Nat} {p : Int32} {n b : Nat} (h1 : b ≠ od) (h2 : b ≠ a) : enterI mi od a p n b = mi b := by
  unfold enterI
  rw [up2_off _ _ _ _ h2, up2_off _ _ _ _ h2, up2_off _ _ _ _ h2, up2_off _ _ _ _ h1]
theorem enterI_at {mi : jI} {od a : Nat} {p : Int32} {n : Nat} (h : od ≠ a) : enterI mi od a p n a 3 = p ∧ enterI mi od a p n a 4 = nI (n + 1) ∧ enterI mi od a p n a 5 = 1 ∧ enterI mi od a p n a 2 = mi a 2 ∧ enterI mi od a p n a 0 = mi a 0 ∧ enterI mi od a p n od 5 = mi od 5 + 1 ∧ enterI mi od a p n od 4 = mi od 4 := by
  refine ⟨?_, ?_, ?_, ?_, ?_, ?_, ?_⟩ <;> simp [enterI, up2_ap, h, Ne.symm h]
section ENT
variable {tt : jT} {mi : jI} {mr : jR} {dk od ia ls ch : Nat} {it ma io : Nat → Nat} {ms : Nat → List Nat} {OA : List Nat} {Cs : Nat → List Nat} {F : List Nat} {LM : Nat → List Nat} {M : Mt}
/-- links of items written: what stays -/
theorem lnkI_items (hS : Sh tt mi mr dk od ia ls it ma io ms) {a : Nat} {P S : List Nat} (ha : tt a = some (.inl 0)) (hOA : ∀ x ∈ P ++ S, tt x = some (.inl 0)) (haO : a ∉ P ++ S) :
    (∀ x, tt x ≠ some (.inl 0) → x ≠ od → lnkI mr od 2 3 6 7 a P.getLast? S.head? x = mr x) ∧ (∀ j, j ≠ 2 → j ≠ 3 → lnkI mr od 2 3 6 7 a P.getLast? S.head? od j = mr od j) ∧ ∀ x j, x ≠ od → j ≠ 6 → j ≠ 7 → lnkI mr od 2 3 6 7 a P.getLast? S.head? x j = mr x j := by
  have hoa : od ≠ a := kne hS.1.2.2.1 ha (by simp)
  have hoO : od ∉ P ++ S := fun z => absurd (hOA od z) (by rw [hS.1.2.2.1]; simp)
  have ha1 : P.getLast? ≠ some od := fun q => hoO (List.mem_append_left _ (List.mem_of_getLast? q))
  have ha2 : S.head? ≠ some od := fun q => hoO (List.mem_append_right _ (List.mem_of_head? q))
  have ha3 : P.getLast? ≠ some a := fun q => haO (List.mem_append_left _ (List.mem_of_getLast? q))
  have ha4 : S.head? ≠ some a := fun q => haO (List.mem_append_right _ (List.mem_of_head? q))
  obtain ⟨g1, -, -, -, -, -, g7, g8⟩ := lnkI_at (mr := mr) (o := od) (m := a) (kf := 2) (kl := 3) (ka := 6) (kb := 7) (by decide) (by decide) hoa ha1 ha2 ha3 ha4
  refine ⟨fun x h1 h2 => g8 x (fun e => h1 (by rw [e]; exact ha)) h2 (fun q => h1 (hOA x (List.mem_append_left _ (List.mem_of_getLast? q)))) (fun q => h1 (hOA x (List.mem_append_right _ (List.mem_of_head? q)))), g7, g1⟩
theorem lnkR_items (hS : Sh tt mi mr dk od ia ls it ma io ms) {a : Nat} {P S : List Nat} (hOA : ∀ x ∈ P ++ a :: S, tt x = some (.inl 0)) :
    (∀ x, tt x ≠ some (.inl 0) → x ≠ od → lnkR mr od 2 3 6 7 P.getLast? S.head? x = mr x) ∧ (∀ j, j ≠ 2 → j ≠ 3 → lnkR mr od 2 3 6 7 P.getLast? S.head? od j = mr od j) ∧ ∀ x j, x ≠ od → j ≠ 6 → j ≠ 7 → lnkR mr od 2 3 6 7 P.getLast? S.head? x j = mr x j := by
  have hoO : od ∉ P ++ a :: S := fun z => absurd (hOA od z) (by rw [hS.1.2.2.1]; simp)
  have ha1 : P.getLast? ≠ some od := fun q => hoO (List.mem_append_left _ (List.mem_of_getLast? q))
  have ha2 : S.head? ≠ some od := fun q => hoO (List.mem_append_right _ (List.mem_cons_of_mem _ (List.mem_of_head? q)))
  obtain ⟨g1, -, -, -, g7, g8⟩ := lnkR_at (mr := mr) (o := od) (kf := 2) (kl := 3) (ka := 6) (kb := 7) (a := P.getLast?) (f := S.head?) (by decide) (by decide) ha1 ha2
  refine ⟨fun x h1 h2 => g8 x h2 (fun q => h1 (hOA x (List.mem_append_left _ (List.mem_of_getLast? q)))) (fun q => h1 (hOA x (List.mem_append_right _ (List.mem_cons_of_mem _ (List.mem_of_head? q))))), g7, g1⟩
/-- an item that isn't queued isn't in the order -/
theorem out_of (hS : Sh tt mi mr dk od ia ls it ma io ms) (hO : Od mi mr od it OA M) {i : Nat} (hi : i < 200) (hq : qdM M i = false) : it i ∉ OA := fun z => by
  obtain ⟨j, hj, e, hq2⟩ := (hO.2.2.2 _).mp z
  have := hS.inj hi hj e
  rw [← this, hq] at hq2
  cases hq2
theorem enter_beg (hS : Sh tt mi mr dk od ia ls it ma io ms) (hO : Od mi mr od it OA M) (hL : LInv tt mi mr ls ch io (plM M ms) (fun _ => False) Cs F LM) {i : Nat} (hi : i < 200) (hq : qdM M i = false) (p : Int32) {P S : List Nat} (e : OA = P ++ S) :
    LInv tt (enterI mi od (it i) p (nM M)) (lnkI mr od 2 3 6 7 (it i) P.getLast? S.head?) ls ch io (fun m => plM M ms m ∨ m ∈ (ms i).take 0) (fun _ => False) Cs F LM := by
  have ta := (hS.2 i hi).2.1
  have hOA : ∀ x ∈ P ++ S, tt x = some (.inl 0) := fun x hx => hO.a hS (by rw [e]; exact hx)
  obtain ⟨r1, -, -⟩ := lnkI_items hS ta hOA (by rw [← e]; exact out_of hS hO hi hq)
  refine hL.congr (fun a ha hp => ?_) (fun m hm => ?_) (fun m => by simp) (fun _ z => z)
  · have h1 : tt a ≠ some (.inl 0) := by rcases ha with h | h | h | h <;> (rw [h]; simp)
    have h2 : a ≠ od := fun z => by rw [z, hS.1.2.2.1] at ha; rcases ha with h | h | h | h <;> cases h
    exact ⟨enterI_off h2 (fun z => h1 (by rw [z]; exact ta)), r1 a h1 h2⟩
  · obtain ⟨j, hj, hq2, hm2⟩ := hm
    have e1 := ((hS.2 j hj).2.2.2.2.2.2.2 m (List.mem_of_mem_take hm2)).2.2
    rw [e1, enterI_off (kne (hS.2 j hj).2.1 hS.1.2.2.1 (by simp)) (fun z => ?_)]
    · exact ⟨rfl, rfl⟩
    · have := hS.inj hj hi z
      rw [this, hq] at hq2
      cases hq2
theorem enter_room (hS : Sh tt mi mr dk od ia ls it ma io ms) {mi2 : jI} {mr2 : jR} {i k m : Nat} (hL : LInv tt mi2 mr2 ls ch io (fun m => plM M ms m ∨ m ∈ (ms i).take k) (fun _ => False) Cs F LM) (hi : i < 200) (hq : qdM M i = false) (hm : (ms i)[k]? = some m) : (∃ q F', F = q :: F') ∧ ¬ (plM M ms m ∨ m ∈ (ms i).take k) := by
  have hmi : m ∈ ms i := List.mem_of_getElem? hm
  have hnp : ¬ (plM M ms m ∨ m ∈ (ms i).take k) := by
    rintro (z | z)
    · exact plM_out hS hi hq hmi z
    · exact not_mem_take (hS.2 i hi).2.2.2.2.2.2.1 hm z
  refine ⟨hL.room (AM := (List.range 200).flatMap ms) (fun x hx => ?_) (Nat.le_of_eq hS.len) (mem_AM hi hmi) hnp, hnp⟩
  rcases hx with z | z
  · exact z.AM
  · exact mem_AM hi (List.mem_of_mem_take z)
theorem enter_key (hS : Sh tt mi mr dk od ia ls it ma io ms) (hV : Vl mi od it ms M) (hM : MI M) (hn : nM M < 2 ^ 30) {i k m : Nat} (hi : i < 200) (hq : qdM M i = false) (hk : k < (tkM M i).length) (hm : (ms i)[k]? = some m) (p : Int32) {mrB mr2 : jR} {mi2 : jI} (hF : FrL tt (enterI mi od (it i) p (nM M)) mrB mi2 mr2) :
    ∀ x, (plM M ms x ∨ x ∈ (ms i).take k) → mi2 x 1 = mi2 m 1 → mi2 (io x) 4 ≠ mi2 (io m) 4 := by
  have hmi : m ∈ ms i := List.mem_of_getElem? hm
  obtain ⟨-, ta, -, -, -, -, hnd, hmem⟩ := hS.2 i hi
  obtain ⟨tm, -, eim⟩ := hmem m hmi
  have hoa : od ≠ it i := kne hS.1.2.2.1 ta (by simp)
  have hne : ∀ x, tt x = some (.inl 1) → enterI mi od (it i) p (nM M) x = mi x := fun x hx => enterI_off (kne hx hS.1.2.2.1 (by simp)) (kne hx ta (by simp))
  rintro x (⟨j, hj, hq2, hm2⟩ | hx) e
  · have hji : j ≠ i := fun z => by rw [z, hq] at hq2; cases hq2
    have ej := ((hS.2 j hj).2.2.2.2.2.2.2 x (List.mem_of_mem_take hm2)).2.2
    have tj := (hS.2 j hj).2.1
    rw [ej, eim, (hF.1 (it j) _ tj rfl).1, (hF.1 (it i) _ ta rfl).1, enterI_off (kne tj hS.1.2.2.1 (by simp)) (fun z => hji (hS.inj hj hi z)), (hV.2 j hj).2.2.1, (enterI_at hoa).2.1]
    obtain ⟨c, hc, ec⟩ := hM.2.1 j hj hq2
    rw [ec]
    intro z
    rw [nI_eq (by omega) (by omega)] at z
    omega
  · exfalso
    have hxi : x ∈ ms i := List.mem_of_mem_take hx
    have tx := (hmem x hxi).1
    rw [(hF.2 x tx).1, (hF.2 m tm).1, hne x tx, hne m tm] at e
    have hx2 : x ∈ (ms i).take (tkM M i).length := by
      obtain ⟨j, hj⟩ := List.getElem?_of_mem hx
      rw [List.getElem?_take] at hj
      split at hj
      next hlt => exact List.mem_of_getElem? (i := j) (by rw [List.getElem?_take_of_lt (by omega)]; exact hj)
      next => cases hj
    have := row_pos (hV.2 i hi).2.2.2.2 (hM.1 i hi).1 hk hm hx2 e
    rw [this] at hx
    exact not_mem_take hnd hm hx
theorem enter_end (hS : Sh tt mi mr dk od ia ls it ma io ms) (hV : Vl mi od it ms M) (hO : Od mi mr od it OA M) (hM : MI M) (hn : nM M < 2 ^ 30) {i : Nat} (hi : i < 200) (hq : qdM M i = false) (p : Int32) {P S : List Nat} (e : OA = P ++ S) (hSS : ∀ x ∈ S, bef (enterI mi od (it i) p (nM M)) (it i) x = true) (hPP : ∀ x, P.getLast? = some x → bef (enterI mi od (it i) p (nM M)) (it i) x = false) {mi2 : jI} {mr2 : jR}
    (hF : FrL tt (enterI mi od (it i) p (nM M)) (lnkI mr od 2 3 6 7 (it i) P.getLast? S.head?) mi2 mr2) (hL : LInv tt mi2 mr2 ls ch io (fun m => plM M ms m ∨ m ∈ (ms i).take (tkM M i).length) (fun _ => False) Cs F LM) :
    Dk tt (up2 mi2 od 4 (mi2 od 4 + 1)) mr2 dk od ia ls ch it ma io (comeM M i p) ∧ FrM tt mi mr (up2 mi2 od 4 (mi2 od 4 + 1)) mr2 ∧ up2 mi2 od 4 (mi2 od 4 + 1) od 5 = nI (nM M + 1) := by
  have ta := (hS.2 i hi).2.1
  have tod := hS.1.2.2.1
  have hOA : ∀ x ∈ P ++ S, tt x = some (.inl 0) := fun x hx => hO.a hS (by rw [e]; exact hx)
  have haO : it i ∉ P ++ S := by rw [← e]; exact out_of hS hO hi hq
  obtain ⟨r1, r2, r3⟩ := lnkI_items hS ta hOA haO
  have hoa : od ≠ it i := kne tod ta (by simp)
  have hoO : od ∉ P ++ S := fun z => absurd (hOA od z) (by rw [tod]; simp)
  have eat := enterI_at (mi := mi) (p := p) (n := nM M) hoa
  have hLLB : LL (lnkI mr od 2 3 6 7 (it i) P.getLast? S.head?) od 2 3 6 7 (P ++ it i :: S) := (by rw [← e]; exact hO.1 : LL mr od 2 3 6 7 (P ++ S)).ins (by decide) (by decide) (by rw [← e]; exact hO.2.2.1.nodup) haO hoO hoa
  generalize hI1 : enterI mi od (it i) p (nM M) = mi1 at *
  generalize hRB : lnkI mr od 2 3 6 7 (it i) P.getLast? S.head? = mrB at *
  have Ioff : ∀ b, b ≠ od → b ≠ it i → mi1 b = mi b := fun b h1 h2 => by rw [← hI1]; exact enterI_off h1 h2
  obtain ⟨e3, e4, e5, e2, e0, eo5, eo4⟩ := eat
  have fo := hF.1 od _ tod rfl
  have fI : ∀ j, j < 200 → mi2 (it j) = mi1 (it j) ∧ mr2 (it j) = mrB (it j) := fun j hj => hF.1 _ _ (hS.2 j hj).2.1 rfl
  have fm : ∀ j, j < 200 → ∀ m ∈ ms j, mi2 m = mi m ∧ mr2 m 0 = mr m 0 := fun j hj m hm => by
    have tm := ((hS.2 j hj).2.2.2.2.2.2.2 m hm).1
    have h1 := hF.2 m tm
    exact ⟨h1.1.trans (Ioff m (kne tm tod (by simp)) (kne tm ta (by simp))), h1.2.trans (by rw [r1 m (by rw [tm]; simp) (kne tm tod (by simp))])⟩
  generalize hI3 : up2 mi2 od 4 (mi2 od 4 + 1) = mi3
  have I3 : ∀ b, b ≠ od → mi3 b = mi2 b := fun b hb => by rw [← hI3, up2_off _ _ _ _ hb]
  have hio : ∀ j, j < 200 → it j ≠ od := fun j hj => kne (hS.2 j hj).2.1 tod (by simp)
  have hmo : ∀ j, j < 200 → ∀ m ∈ ms j, m ≠ od := fun j hj m hm => kne ((hS.2 j hj).2.2.2.2.2.2.2 m hm).1 tod (by simp)
  have ko5 : mi3 od 5 = nI (nM M + 1) := by
    rw [← hI3, up2_ap, if_neg (by simp), fo.1, eo5, hV.1, nI_1]
  have ko4 : mi3 od 4 = nI (OA.length + 1) := by
    rw [← hI3, up2_ap, if_pos ⟨rfl, rfl⟩, fo.1, eo4, hO.2.1, nI_1]
  refine ⟨⟨ms, P ++ it i :: S, Cs, F, LM, ?_, ⟨ko5, fun j hj => ?_⟩, ⟨?_, ?_, ?_, fun a => ?_⟩, ?_⟩, ?_, ko5⟩
  · refine hS.congr ?_ ?_ ?_ (fun j hj => ?_) (fun j hj m hm => (fm j hj m hm).2)
    · rw [(hF.1 dk _ hS.1.1 rfl).2, r1 dk (by rw [hS.1.1]; simp) (kne hS.1.1 tod (by simp))]
    · rw [fo.2, r2 0 (by decide) (by decide), r2 1 (by decide) (by decide)]; exact ⟨rfl, rfl⟩
    · rw [(hF.1 ia _ hS.1.2.2.2.2.2 rfl).2, r1 ia (by rw [hS.1.2.2.2.2.2]; simp) (kne hS.1.2.2.2.2.2 tod (by simp))]
    · have tj := (hS.2 j hj).2.1
      have tma := (hS.2 j hj).2.2.2.2.1
      refine ⟨?_, ?_, ?_⟩
      · rw [I3 _ (hio j hj), (fI j hj).1]
        by_cases z : it j = it i
        · rw [z]; exact e0
        · rw [Ioff _ (hio j hj) z]
      · rw [(fI j hj).2, r3 _ 1 (hio j hj) (by decide) (by decide)]
      · rw [(hF.1 _ _ tma rfl).2, r1 _ (by rw [tma]; simp) (kne tma tod (by simp))]
  · obtain ⟨v1, v2, v3, v4, v5⟩ := hV.2 j hj
    have hpos : ((ms j).take (tkM M j).length).map (fun m => mi3 m 1) = tkM M j := by
      rw [← v5]
      rw [v5]
      refine Eq.trans (List.map_congr_left (fun m hm => ?_)) v5
      have hmj := List.mem_of_mem_take hm
      rw [I3 m (hmo j hj m hmj), (fm j hj m hmj).1]
    by_cases z : j = i
    · subst z
      have kk : ∀ y, mi3 (it j) y = mi1 (it j) y := fun y => by rw [I3 _ (hio j hj), (fI j hj).1]
      refine ⟨?_, ?_, ?_, ?_, hpos⟩
      · rw [kk, e5]; simp [comeM, qdM, va_up, bI]
      · rw [kk, e3]; simp [comeM, prM, va_up]
      · rw [kk, e4]; simp [comeM, arM, va_up]
      · rw [kk, e2]; exact v4
    · have kk : ∀ y, mi3 (it j) y = mi (it j) y := fun y => by rw [I3 _ (hio j hj), (fI j hj).1, Ioff _ (hio j hj) (fun w => z (hS.inj hj hi w))]
      refine ⟨?_, ?_, ?_, ?_, hpos⟩
      · rw [kk, v1]; simp [comeM, qdM, va_up, z]
      · rw [kk, v2]; simp [comeM, prM, va_up, z]
      · rw [kk, v3]; simp [comeM, arM, va_up, z]
      · rw [kk]; exact v4
  · refine hLLB.congr (by rw [fo.2]; exact ⟨rfl, rfl⟩) (fun x hx => ?_)
    have tx : tt x = some (.inl 0) := by
      have : x = it i ∨ x ∈ P ++ S := by simp at hx ⊢; rcases hx with z | z | z <;> simp [z]
      rcases this with z | z
      · rw [z]; exact ta
      · exact hOA x z
    rw [(hF.1 x _ tx rfl).2]; exact ⟨rfl, rfl⟩
  · rw [ko4, e]
    congr 1
    simp
    omega
  · have hs1 : Srt mi1 id (P ++ S) := (by rw [← e]; exact hO.2.2.1 : Srt mi id (P ++ S)).congr (fun x hx => by
      show mi1 x 3 = mi x 3 ∧ mi1 x 4 = mi x 4
      rw [Ioff x (fun z => hoO (z ▸ hx)) (fun z => haO (z ▸ hx))]; exact ⟨rfl, rfl⟩)
    refine (Srt.ins (m := it i) hs1 hSS hPP (fun x hx => ?_)).congr (fun x hx => ?_)
    · show mi1 x 4 ≠ mi1 (it i) 4
      obtain ⟨j, hj, ej, hqj⟩ := (hO.2.2.2 x).mp (by rw [e]; exact hx)
      rw [Ioff x (fun z => hoO (z ▸ hx)) (fun z => haO (z ▸ hx)), e4, ej, (hV.2 j hj).2.2.1]
      obtain ⟨c, hc, ec⟩ := hM.2.1 j hj hqj
      rw [ec]
      intro z
      rw [nI_eq (by omega) (by omega)] at z
      omega
    · have tx : tt x = some (.inl 0) := by
        have : x = it i ∨ x ∈ P ++ S := by simp at hx ⊢; rcases hx with z | z | z <;> simp [z]
        rcases this with z | z
        · rw [z]; exact ta
        · exact hOA x z
      show mi3 x 3 = mi1 x 3 ∧ mi3 x 4 = mi1 x 4
      rw [I3 x (kne tx tod (by simp)), (hF.1 x _ tx rfl).1]; exact ⟨rfl, rfl⟩
  · constructor
    · intro ha
      have : a = it i ∨ a ∈ P ++ S := by simp at ha ⊢; rcases ha with z | z | z <;> simp [z]
      rcases this with z | z
      · exact ⟨i, hi, z, by simp [comeM, qdM, va_up]⟩
      · obtain ⟨j, hj, ej, hqj⟩ := (hO.2.2.2 a).mp (by rw [e]; exact z)
        refine ⟨j, hj, ej, ?_⟩
        by_cases w : j = i
        · simp [comeM, qdM, va_up, w]
        · simp only [comeM, qdM, va_up, w, if_false]; exact hqj
    · rintro ⟨j, hj, ej, hqj⟩
      by_cases w : j = i
      · rw [ej, w]; simp
      · have : qdM M j = true := by simpa [comeM, qdM, va_up, w] using hqj
        have h2 := (hO.2.2.2 a).mpr ⟨j, hj, ej, this⟩
        rw [e] at h2
        simp at h2 ⊢
        rcases h2 with z | z <;> simp [z]
  · refine hL.congr (fun a ha hp => ⟨I3 a (fun z => ?_), rfl⟩) (fun m hm => ?_) (fun m => ?_) (fun _ z => z)
    · rw [z, tod] at ha
      rcases ha with h | h | h | h <;> cases h
    · have : tt (io m) = some (.inl 0) := (hL.2.2.2.2.2.2.2.2.2.2.2.2 m hm).2.2.1
      rw [I3 _ (kne this tod (by simp))]; exact ⟨rfl, rfl⟩
    · constructor
      · rintro ⟨j, hj, hqj, hmj⟩
        by_cases w : j = i
        · rw [w] at hmj; exact Or.inr hmj
        · exact Or.inl ⟨j, hj, by simpa [comeM, qdM, va_up, w] using hqj, hmj⟩
      · rintro (⟨j, hj, hqj, hmj⟩ | hmj)
        · refine ⟨j, hj, ?_, hmj⟩
          by_cases w : j = i
          · simp [comeM, qdM, va_up, w]
          · simp only [comeM, qdM, va_up, w, if_false]; exact hqj
        · exact ⟨i, hi, by simp [comeM, qdM, va_up], hmj⟩
  · intro a q ha hq
    have h1 := hF.1 a q ha (mK_lnK hq)
    have hao : a ≠ od := fun z => by rw [z, tod] at ha; cases ha; simp [mK] at hq
    have hai : tt a ≠ some (.inl 0) := fun z => by rw [z] at ha; cases ha; simp [mK] at hq
    refine ⟨?_, ?_⟩
    · rw [I3 a hao, h1.1, Ioff a hao (fun z => hai (by rw [z]; exact ta))]
    · rw [h1.2, r1 a hai hao]
end ENT
end
section
/-! PLAIN LAWS 6: what Orders.exit does to the invariant; the members of a line are few -/
section EXI
variable {tt : jT} {mi : jI} {mr : jR} {dk od ia ls ch : Nat} {it ma io : Nat → Nat} {ms : Nat → List Nat} {OA : List Nat} {Cs : Nat → List Nat} {F : List Nat} {LM : Nat → List Nat} {M : Mt}
theorem LInv.few (hS : Sh tt mi mr dk od ia ls it ma io ms) {mi2 : jI} {mr2 : jR} {pl E : Nat → Prop} (hL : LInv tt mi2 mr2 ls ch io pl E Cs F LM) (hp : ∀ m, pl m → plM M ms m) {q : Nat} (hq : q ∈ Us Cs) : (LM q).length ≤ 1600 := by
  obtain ⟨k1, -, k3⟩ := hL.2.2.2.2.2.2.2.2.2.2.1 q hq
  have := nodup_le (B := (List.range 200).flatMap ms) k1.nodup (fun x hx => (hp x ((k3 x).mp hx).1).AM)
  rw [hS.len] at this
  exact this
theorem exit_beg (hS : Sh tt mi mr dk od ia ls it ma io ms) (hO : Od mi mr od it OA M) (hL : LInv tt mi mr ls ch io (plM M ms) (fun _ => False) Cs F LM) {i : Nat} {P S : List Nat} (e : OA = P ++ it i :: S) :
    LInv tt mi (lnkR mr od 2 3 6 7 P.getLast? S.head?) ls ch io (fun m => plM M ms m ∧ m ∉ (ms i).take 0) (fun _ => False) Cs F LM := by
  have hOA : ∀ x ∈ P ++ it i :: S, tt x = some (.inl 0) := fun x hx => hO.a hS (by rw [e]; exact hx)
  obtain ⟨r1, -, -⟩ := lnkR_items hS hOA
  refine hL.congr (fun a ha hp => ?_) (fun m hm => ⟨rfl, rfl⟩) (fun m => by simp) (fun _ z => z)
  have h1 : tt a ≠ some (.inl 0) := by rcases ha with h | h | h | h <;> (rw [h]; simp)
  have h2 : a ≠ od := fun z => by rw [z, hS.1.2.2.1] at ha; rcases ha with h | h | h | h <;> cases h
  exact ⟨rfl, r1 a h1 h2⟩
theorem exit_end (hS : Sh tt mi mr dk od ia ls it ma io ms) (hV : Vl mi od it ms M) (hO : Od mi mr od it OA M) {i : Nat} (hi : i < 200) {P S : List Nat} (e : OA = P ++ it i :: S) {mi2 : jI} {mr2 : jR}
    (hF : FrL tt mi (lnkR mr od 2 3 6 7 P.getLast? S.head?) mi2 mr2) (hL : LInv tt mi2 mr2 ls ch io (fun m => plM M ms m ∧ m ∉ (ms i).take (tkM M i).length) (fun _ => False) Cs F LM) :
    Dk tt (up2 (up2 mi2 (it i) 5 0) od 4 (mi2 od 4 - 1)) mr2 dk od ia ls ch it ma io (exitM M i) ∧ FrM tt mi mr (up2 (up2 mi2 (it i) 5 0) od 4 (mi2 od 4 - 1)) mr2 := by
  have ta := (hS.2 i hi).2.1
  have tod := hS.1.2.2.1
  have hOA : ∀ x ∈ P ++ it i :: S, tt x = some (.inl 0) := fun x hx => hO.a hS (by rw [e]; exact hx)
  obtain ⟨r1, r2, r3⟩ := lnkR_items hS hOA
  have hoa : od ≠ it i := kne tod ta (by simp)
  have hoO : od ∉ P ++ it i :: S := fun z => absurd (hOA od z) (by rw [tod]; simp)
  have hnd : (P ++ it i :: S).Nodup := by rw [← e]; exact hO.2.2.1.nodup
  have hsub : ∀ x, x ∈ P ++ S ↔ x ∈ P ++ it i :: S ∧ x ≠ it i := fun x => by
    constructor
    · intro hx
      refine ⟨?_, fun z => ?_⟩
      · simp at hx ⊢; rcases hx with z | z <;> simp [z]
      · subst z
        rcases List.mem_append.mp hx with z | z
        · exact (List.nodup_append.mp hnd).2.2 _ z _ List.mem_cons_self rfl
        · exact (List.nodup_cons.mp (List.nodup_append.mp hnd).2.1).1 z
    · rintro ⟨hx, z⟩
      simp at hx ⊢
      rcases hx with w | w | w
      · exact Or.inl w
      · exact absurd w z
      · exact Or.inr w
  have hLLB : LL (lnkR mr od 2 3 6 7 P.getLast? S.head?) od 2 3 6 7 (P ++ S) := (by rw [← e]; exact hO.1 : LL mr od 2 3 6 7 (P ++ it i :: S)).rem (by decide) (by decide) hnd hoO
  generalize hRB : lnkR mr od 2 3 6 7 P.getLast? S.head? = mrB at *
  have fo := hF.1 od _ tod rfl
  have fI : ∀ j, j < 200 → mi2 (it j) = mi (it j) ∧ mr2 (it j) = mrB (it j) := fun j hj => hF.1 _ _ (hS.2 j hj).2.1 rfl
  have fm : ∀ j, j < 200 → ∀ m ∈ ms j, mi2 m = mi m ∧ mr2 m 0 = mr m 0 := fun j hj m hm => by
    have tm := ((hS.2 j hj).2.2.2.2.2.2.2 m hm).1
    have h1 := hF.2 m tm
    exact ⟨h1.1, h1.2.trans (by rw [r1 m (by rw [tm]; simp) (kne tm tod (by simp))])⟩
  generalize hI3 : up2 (up2 mi2 (it i) 5 0) od 4 (mi2 od 4 - 1) = mi3
  have I3 : ∀ b, b ≠ od → b ≠ it i → mi3 b = mi2 b := fun b hb hb2 => by rw [← hI3, up2_off _ _ _ _ hb, up2_off _ _ _ _ hb2]
  have I4 : ∀ y, y ≠ 5 → mi3 (it i) y = mi2 (it i) y := fun y hy => by rw [← hI3]; simp [up2_ap, Ne.symm hoa, hy]
  have I5 : mi3 (it i) 5 = 0 := by rw [← hI3]; simp [up2_ap, Ne.symm hoa]
  have ko5 : mi3 od 5 = nI (nM M) := by
    rw [← hI3]
    simp only [up2_ap, hoa, false_and, if_false]
    rw [if_neg (by simp), fo.1, hV.1]
  have ko4 : mi3 od 4 = mi od 4 - 1 := by
    rw [← hI3, up2_ap, if_pos ⟨rfl, rfl⟩, fo.1]
  have hio : ∀ j, j < 200 → it j ≠ od := fun j hj => kne (hS.2 j hj).2.1 tod (by simp)
  have hmo : ∀ j, j < 200 → ∀ m ∈ ms j, m ≠ od ∧ m ≠ it i := fun j hj m hm => ⟨kne ((hS.2 j hj).2.2.2.2.2.2.2 m hm).1 tod (by simp), kne ((hS.2 j hj).2.2.2.2.2.2.2 m hm).1 ta (by simp)⟩
  refine ⟨⟨ms, P ++ S, Cs, F, LM, ?_, ⟨ko5, fun j hj => ?_⟩, ⟨?_, ?_, ?_, fun a => ?_⟩, ?_⟩, ?_⟩
  · refine hS.congr ?_ ?_ ?_ (fun j hj => ?_) (fun j hj m hm => (fm j hj m hm).2)
    · rw [(hF.1 dk _ hS.1.1 rfl).2, r1 dk (by rw [hS.1.1]; simp) (kne hS.1.1 tod (by simp))]
    · rw [fo.2, r2 0 (by decide) (by decide), r2 1 (by decide) (by decide)]; exact ⟨rfl, rfl⟩
    · rw [(hF.1 ia _ hS.1.2.2.2.2.2 rfl).2, r1 ia (by rw [hS.1.2.2.2.2.2]; simp) (kne hS.1.2.2.2.2.2 tod (by simp))]
    · have tma := (hS.2 j hj).2.2.2.2.1
      refine ⟨?_, ?_, ?_⟩
      · by_cases z : it j = it i
        · rw [z, I4 0 (by decide), (fI i hi).1]
        · rw [I3 _ (hio j hj) z, (fI j hj).1]
      · rw [(fI j hj).2, r3 _ 1 (hio j hj) (by decide) (by decide)]
      · rw [(hF.1 _ _ tma rfl).2, r1 _ (by rw [tma]; simp) (kne tma tod (by simp))]
  · obtain ⟨v1, v2, v3, v4, v5⟩ := hV.2 j hj
    have hpos : ((ms j).take (tkM M j).length).map (fun m => mi3 m 1) = tkM M j := by
      refine Eq.trans (List.map_congr_left (fun m hm => ?_)) v5
      have hmj := List.mem_of_mem_take hm
      rw [I3 m (hmo j hj m hmj).1 (hmo j hj m hmj).2, (fm j hj m hmj).1]
    by_cases z : j = i
    · subst z
      refine ⟨?_, ?_, ?_, ?_, hpos⟩
      · rw [I5]; simp [exitM, qdM, va_up, bI]
      · rw [I4 3 (by decide), (fI j hj).1]; exact v2
      · rw [I4 4 (by decide), (fI j hj).1]; exact v3
      · rw [I4 2 (by decide), (fI j hj).1]; exact v4
    · have kk : ∀ y, mi3 (it j) y = mi (it j) y := fun y => by rw [I3 _ (hio j hj) (fun w => z (hS.inj hj hi w)), (fI j hj).1]
      refine ⟨?_, ?_, ?_, ?_, hpos⟩
      · rw [kk, v1]; simp [exitM, qdM, va_up, z]
      · rw [kk]; exact v2
      · rw [kk]; exact v3
      · rw [kk]; exact v4
  · refine hLLB.congr (by rw [fo.2]; exact ⟨rfl, rfl⟩) (fun x hx => ?_)
    rw [(hF.1 x _ (hOA x ((hsub x).mp hx).1) rfl).2]; exact ⟨rfl, rfl⟩
  · rw [ko4, hO.2.1, e]
    have : (P ++ it i :: S).length = (P ++ S).length + 1 := by simp; omega
    rw [this]
    exact nI_pred _
  · refine (by rw [← e]; exact hO.2.2.1 : Srt mi id (P ++ it i :: S)).rem.congr (fun x hx => ?_)
    have h1 := (hsub x).mp hx
    have tx := hOA x h1.1
    show mi3 x 3 = mi x 3 ∧ mi3 x 4 = mi x 4
    rw [I3 x (kne tx tod (by simp)) h1.2, (hF.1 x _ tx rfl).1]; exact ⟨rfl, rfl⟩
  · rw [hsub a, ← e, hO.2.2.2 a]
    constructor
    · rintro ⟨⟨j, hj, ej, hqj⟩, hne⟩
      have w : j ≠ i := fun w => hne (by rw [ej, w])
      exact ⟨j, hj, ej, by simp only [exitM, qdM, va_up, w, if_false]; exact hqj⟩
    · rintro ⟨j, hj, ej, hqj⟩
      by_cases w : j = i
      · simp [exitM, qdM, va_up, w] at hqj
      · exact ⟨⟨j, hj, ej, by simpa [exitM, qdM, va_up, w] using hqj⟩, fun z => w (hS.inj hj hi (ej.symm.trans z))⟩
  · refine hL.congr (fun a ha hp => ⟨I3 a (fun z => ?_) (fun z => ?_), rfl⟩) (fun m hm => ?_) (fun m => ?_) (fun _ z => z)
    · rw [z, tod] at ha
      rcases ha with h | h | h | h <;> cases h
    · rw [z, ta] at ha
      rcases ha with h | h | h | h <;> cases h
    · have tm : tt (io m) = some (.inl 0) := (hL.2.2.2.2.2.2.2.2.2.2.2.2 m hm).2.2.1
      by_cases z : io m = it i
      · rw [z, I4 3 (by decide), I4 4 (by decide)]; exact ⟨rfl, rfl⟩
      · rw [I3 _ (kne tm tod (by simp)) z]; exact ⟨rfl, rfl⟩
    · constructor
      · rintro ⟨j, hj, hqj, hmj⟩
        by_cases w : j = i
        · simp [exitM, qdM, va_up, w] at hqj
        · refine ⟨⟨j, hj, by simpa [exitM, qdM, va_up, w] using hqj, hmj⟩, fun z => w (hS.dis hj hi (List.mem_of_mem_take hmj) (List.mem_of_mem_take z))⟩
      · rintro ⟨⟨j, hj, hqj, hmj⟩, hn⟩
        have w : j ≠ i := fun w => hn (by rw [w] at hmj; exact hmj)
        exact ⟨j, hj, by simp only [exitM, qdM, va_up, w, if_false]; exact hqj, hmj⟩
  · intro a q ha hq
    have h1 := hF.1 a q ha (mK_lnK hq)
    have hao : a ≠ od := fun z => by rw [z, tod] at ha; cases ha; simp [mK] at hq
    have hai : tt a ≠ some (.inl 0) := fun z => by rw [z] at ha; cases ha; simp [mK] at hq
    refine ⟨?_, ?_⟩
    · rw [I3 a hao (fun z => hai (by rw [z]; exact ta)), h1.1]
    · rw [h1.2, r1 a hai hao]
end EXI
end
section
/-! Orders.enter, Orders.exit over the desk -/
set_option maxHeartbeats 4000000 in
set_option maxRecDepth 100000 in
/-- Orders.enter -/
theorem c_Orders_enter (l : Launch) (D : jD) (N0 : Nat) {tt : jT} {mi : jI} {mr : jR} {dk od ia ls ch : Nat} {it ma io : Nat → Nat} {M : Mt} (h : Dk tt mi mr dk od ia ls ch it ma io M) (hM : MI M) (hn : nM M < 2 ^ 30) {i : Nat} (hi : i < 200) (hq : qdM M i = false) (p : Int32) : Ct l D N0 3 0 0 y_Orders_enter b_Orders_enter 5 (some .int) [va_rf (some od), va_rf (some (it i)), .int p] tt mi mr (fun v tt' mi' mr' => tt' = tt ∧ FrM tt mi mr mi' mr' ∧ v = some (.int (nI (nM M + 1))) ∧ Dk tt mi' mr' dk od ia ls ch it ma io (comeM M i p)) := by
  refine Ct.of "OrderDesk$Orders" (by decide +kernel) rfl (by simp [cat_rf, cat_int]) (Nat.le_of_ble_eq_true rfl) (fun X hXl hXd hXn C E I hWT => ?_)
  subst hXl hXd hXn
  obtain ⟨ms, OA, Cs0, F0, LM0, hS, hV, hO, hL0⟩ := h
  have tod := hS.1.2.2.1
  obtain ⟨hia, ta, hnum, hma, tma, hrow, hnd, hmem⟩ := hS.2 i hi
  have hoa : od ≠ it i := kne tod ta (by simp)
  obtain ⟨P, S, eOA, hSS, hPP⟩ := split_by (fun x => bef (enterI mi od (it i) p (nM M)) (it i) x) OA
  have hcnt : (tkM M i).length ≤ 8 := (hM.1 i hi).2.1
  have hOA : ∀ x ∈ P ++ S, tt x = some (.inl 0) := fun x hx => hO.a hS (by rw [eOA]; exact hx)
  have haO : it i ∉ P ++ S := by rw [← eOA]; exact out_of hS hO hi hq
  have hLL : LL mr od 2 3 6 7 (P ++ S) := by rw [← eOA]; exact hO.1
  have hbeg := enter_beg hS hO hL0 hi hq p eOA
  have eat := enterI_at (mi := mi) (p := p) (n := nM M) hoa
  obtain ⟨r1, r2, r3⟩ := lnkI_items hS ta hOA haO
  obtain ⟨mi1, hI1⟩ : ∃ z, z = enterI mi od (it i) p (nM M) := ⟨_, rfl⟩
  obtain ⟨mrB, hRB⟩ : ∃ z, z = lnkI mr od 2 3 6 7 (it i) P.getLast? S.head? := ⟨_, rfl⟩
  rw [← hI1] at hSS hPP eat hbeg
  rw [← hRB] at r1 r2 r3 hbeg
  have hf0 : P.getLast? = none → mr od 2 = S.head? := fun z => by rw [List.getLast?_eq_none_iff] at z; rw [hLL.1, z]; rfl
  have hf1 : ∀ x, P.getLast? = some x → mr x 7 = S.head? := fun x z => by
    rcases List.eq_nil_or_concat P with e1 | ⟨L, c, e1⟩
    · rw [e1] at z; simp at z
    · rw [List.concat_eq_append] at e1
      rw [e1, List.getLast?_concat] at z
      cases z
      exact (hLL.2.2 L x S (by rw [e1]; simp)).2
  have loop2 : ∀ (n k : Nat) (mi2 : jI) (mr2 : jR) (Cs : Nat → List Nat) (F : List Nat) (LM : Nat → List Nat), k ≤ (tkM M i).length → (tkM M i).length < k + n → FrL tt mi1 mrB mi2 mr2 → LInv tt mi2 mr2 ls ch io (fun m => plM M ms m ∨ m ∈ (ms i).take k) (fun _ => False) Cs F LM → J X tt mi2 mr2 0 0 126 [some (va_rf (some od)), some (va_rf (some (it i))), some (.int p), some (va_rf P.getLast?), some (.int (nI k))] [] := by
    intro n
    induction n with
    | zero => intro k mi2 mr2 Cs F LM h1 h2; exact absurd h2 (by omega)
    | succ n ih =>
      intro k mi2 mr2 Cs F LM hk hnk hF hL
      have fo := hF.1 od _ tod rfl
      have fa := hF.1 (it i) _ ta rfl
      have hsz : mi2 (it i) 2 = nI (tkM M i).length := by rw [fa.1, eat.2.2.2.1]; exact (hV.2 i hi).2.2.2.1
      have hlin : mr2 od 1 = some ls := by rw [fo.2, r2 1 (by decide) (by decide)]; exact hS.1.2.2.2.2.1
      have hmem2 : mr2 (it i) 1 = some (ma i) := by rw [fa.2, r3 _ 1 (Ne.symm hoa) (by decide) (by decide)]; exact hma
      have hrow2 : ∀ k, k < 8 → mr2 (ma i) k = (ms i)[k]? := fun k hk => by rw [(hF.1 _ _ tma rfl).2, r1 _ (by rw [tma]; simp) (kne tma tod (by simp))]; exact hrow.2 k hk
      refine j_iload C d_Orders_enter_126 rfl ?_
      refine j_aload_n C d_Orders_enter_128 rfl ?_
      refine j_geti C d_Orders_enter_129 fl_Orders_63 cl_Item (by assumption) rfl ?_
      refine j_icmp_ge (tgt := 168) C d_Orders_enter_132 (by decide) (fun c132 => ?_) (fun c132 => ?_)
      · skip
        rw [hsz, nI_leI (by omega) (by omega)] at c132
        have ek : k = (tkM M i).length := by omega
        subst ek
        refine j_aload_n C d_Orders_enter_168 rfl ?_
        refine j_dup C d_Orders_enter_169 (by first | rfl | exact cat_rf _) ?_
        refine j_geti C d_Orders_enter_170 fl_Orders_85 cl_Orders (by assumption) rfl ?_
        refine j_iconst (v := 1) C d_Orders_enter_173 (by decide) ?_
        refine j_iadd C d_Orders_enter_174 ?_
        refine j_puti C d_Orders_enter_175 fl_Orders_85 cl_Orders (fun C T N h => by cases h; exact Or.inl rfl) (by assumption) (fun f g => ⟨rfl, Nat.le_of_ble_eq_true rfl⟩) rfl rfl (fun mi175 hm175 => ?_)
        refine j_aload_n C d_Orders_enter_178 rfl ?_
        refine j_geti C d_Orders_enter_179 fl_Orders_36 cl_Orders (by assumption) rfl ?_
        refine j_iret C E rfl rfl d_Orders_enter_182 ?_
        subst hm175 hI1 hRB
        obtain ⟨d1, d2, d3⟩ := enter_end hS hV hO hM hn hi hq p eOA hSS hPP hF hL
        exact ⟨rfl, d2, by rw [d3], d1⟩
      · skip
        rw [hsz, nI_leI (by omega) (by omega)] at c132
        obtain ⟨m, hm⟩ := getE (ms := ms i) (k := k) (by rw [hrow.1]; omega)
        have hmi : m ∈ ms i := List.mem_of_getElem? hm
        obtain ⟨tm, hm0, eim⟩ := hmem m hmi
        obtain ⟨hroom, hnp⟩ := enter_room hS hL hi hq hm
        refine j_aload_n C d_Orders_enter_135 rfl ?_
        refine j_gets C d_Orders_enter_136 fl_Orders_24 cl_Orders rfl (by assumption) rfl hlin (fun t136 => ?_)
        refine j_aload_n C d_Orders_enter_139 rfl ?_
        refine j_gets C d_Orders_enter_140 fl_Orders_66 cl_Item rfl (by assumption) rfl hmem2 (fun t140 => ?_)
        refine j_iload C d_Orders_enter_143 rfl ?_
        refine j_aalds C k d_Orders_enter_145 (by assumption) (by decide) rfl (by omega) (by decide) ((hrow2 k (by omega)).trans hm) (fun t145 => ?_)
        refine j_geti C d_Orders_enter_146 fl_Orders_70 cl_Member (by assumption) rfl ?_
        refine j_callV C [.int (mi2 m 1)] d_Orders_enter_149 ml_Orders_75 mv_Lines_need k_Lines_need ⟨_, _, rfl⟩ (by assumption) (c_needL _ _ _ hL (mi2 m 1) hroom) (by decide) (by decide) rfl (Nat.le_of_ble_eq_true rfl) (Nat.le_of_ble_eq_true rfl) rfl (by simp [cat_rf, cat_int]) (fun v149 tt149 mi149 mr149 p149 => ?_)
        obtain ⟨rfl, hF1, q, Cs1, F1, rfl, hL1, hqU, hqp⟩ := p149
        change J X _ mi149 mr149 0 0 152 _ [va_rf (some q)]
        refine j_aload_n C d_Orders_enter_152 rfl ?_
        refine j_gets (b := (ma i)) C d_Orders_enter_153 fl_Orders_66 cl_Item rfl (by assumption) rfl (by rw [(hF1.1 _ _ ta rfl).2]; exact hmem2) (fun t153 => ?_)
        refine j_iload C d_Orders_enter_156 rfl ?_
        refine j_aalds (b := m) C k d_Orders_enter_158 (by assumption) (by decide) rfl (by omega) (by decide) (by rw [(hF1.1 _ _ tma rfl).2]; exact (hrow2 k (by omega)).trans hm) (fun t158 => ?_)
        refine j_callV C [va_rf (some m)] d_Orders_enter_159 ml_Orders_79 mv_Line_insert k_Line_insert ⟨_, _, rfl⟩ (hL1.2.2.2.2.2.2.1 q (List.mem_append_right _ hqU)).1 (c_insertL _ _ _ hL1 hqU (by rw [hqp, (hF1.2 m tm).1]) hnp tm (by rw [(hF1.2 m tm).2, (hF.2 m tm).2, r1 m (by rw [tm]; simp) (kne tm tod (by simp)), hm0, eim]) (by rw [eim]; exact ta) (enter_key hS hV hM hn hi hq (by omega) hm p (by rw [← hI1]; exact hF.trans hF1))) (by decide) (by decide) rfl (Nat.le_of_ble_eq_true rfl) (Nat.le_of_ble_eq_true rfl) rfl (by simp [cat_rf, cat_int]) (fun v159 tt159 mi159 mr159 p159 => ?_)
        obtain ⟨rfl, rfl, hF2, LM2, hL2⟩ := p159
        change J X _ mi159 mr159 0 0 162 _ []
        refine j_iinc C d_Orders_enter_162 rfl (nI_1 k) ?_
        refine j_goto (tgt := 126) C d_Orders_enter_165 (by decide) ?_
        exact ih (k + 1) mi159 mr159 Cs1 F1 LM2 (by omega) (by omega) (hF.trans (hF1.trans hF2)) (hL2.congr (fun _ _ _ => ⟨rfl, rfl⟩) (fun _ _ => ⟨rfl, rfl⟩) (fun x => by rw [take_succ_mem hm, or_assoc]) (fun _ z => z))
  have tail2 : J X tt mi1 mrB 0 0 123 [some (va_rf (some od)), some (va_rf (some (it i))), some (.int p), some (va_rf P.getLast?), none] [] := by
    refine j_iconst (v := 0) C d_Orders_enter_123 (by decide) ?_
    refine j_istore C d_Orders_enter_124 (Nat.le_of_ble_eq_true rfl) ?_
    exact loop2 ((tkM M i).length + 1) 0 mi1 mrB Cs0 F0 LM0 (by omega) (by omega) FrL.refl hbeg
  have tail1 : J X tt mi1 mr 0 0 53 [some (va_rf (some od)), some (va_rf (some (it i))), some (.int p), some (va_rf P.getLast?), none] [] := by
    rcases hpa : P.getLast? with _ | x
    · rcases hsf : S.head? with _ | y
      · skip
        refine j_aload_n C d_Orders_enter_53 rfl ?_
        refine j_aload_n C d_Orders_enter_54 rfl ?_
        refine j_putr C d_Orders_enter_55 fl_Orders_54 cl_Item (fun C T N h => by cases h; exact Or.inl rfl) rfl (by assumption) (by intro b hb; first | (cases hb; assumption) | cases hb) (fun f g => ⟨rfl, Nat.le_of_ble_eq_true rfl⟩) rfl (fun mr55 hr55 => ?_)
        refine j_aload_n C d_Orders_enter_58 rfl ?_
        refine j_aload_n C d_Orders_enter_59 rfl ?_
        refine j_ifnonnull_n (tgt := 70) C d_Orders_enter_60 (by decide) ?_
        refine j_aload_n C d_Orders_enter_63 rfl ?_
        refine j_getk (r := none) C d_Orders_enter_64 fl_Orders_57 cl_Orders rfl (by assumption) rfl (by rw [hr55, up2_off _ _ _ _ hoa]; exact (hf0 hpa).trans hsf) (fun t64 => ?_)
        refine j_goto (tgt := 74) C d_Orders_enter_67 (by decide) ?_
        refine j_putr C d_Orders_enter_74 fl_Orders_60 cl_Item (fun C T N h => by cases h; exact Or.inl rfl) rfl (by assumption) (by intro b hb; first | (cases hb; assumption) | cases hb) (fun f g => ⟨rfl, Nat.le_of_ble_eq_true rfl⟩) rfl (fun mr74 hr74 => ?_)
        refine j_aload_n C d_Orders_enter_77 rfl ?_
        refine j_getk (r := none) C d_Orders_enter_78 fl_Orders_54 cl_Item rfl (by assumption) rfl (by rw [hr74, up2_ap, if_neg (by simp), hr55, up2_ap, if_pos ⟨rfl, rfl⟩]) (fun t78 => ?_)
        refine j_ifnonnull_n (tgt := 92) C d_Orders_enter_81 (by decide) ?_
        refine j_aload_n C d_Orders_enter_84 rfl ?_
        refine j_aload_n C d_Orders_enter_85 rfl ?_
        refine j_putr C d_Orders_enter_86 fl_Orders_57 cl_Orders (fun C T N h => by cases h; exact Or.inl rfl) rfl (by assumption) (by first | assumption | (intro b hb; cases hb; assumption) | (intro b hb; cases hb)) (fun f g => ⟨rfl, Nat.le_of_ble_eq_true rfl⟩) rfl (fun mr86 hr86 => ?_)
        refine j_goto (tgt := 100) C d_Orders_enter_89 (by decide) ?_
        refine j_aload_n C d_Orders_enter_100 rfl ?_
        refine j_getk (r := none) C d_Orders_enter_101 fl_Orders_60 cl_Item rfl (by assumption) rfl (by rw [hr86, up2_ap, if_neg (fun z => hoa z.1.symm), hr74, up2_ap, if_pos ⟨rfl, rfl⟩]) (fun t101 => ?_)
        refine j_ifnonnull_n (tgt := 115) C d_Orders_enter_104 (by decide) ?_
        refine j_aload_n C d_Orders_enter_107 rfl ?_
        refine j_aload_n C d_Orders_enter_108 rfl ?_
        refine j_putr C d_Orders_enter_109 fl_Orders_46 cl_Orders (fun C T N h => by cases h; exact Or.inl rfl) rfl (by assumption) (by first | assumption | (intro b hb; cases hb; assumption) | (intro b hb; cases hb)) (fun f g => ⟨rfl, Nat.le_of_ble_eq_true rfl⟩) rfl (fun mr109 hr109 => ?_)
        refine j_goto (tgt := 123) C d_Orders_enter_112 (by decide) ?_
        have eB : mr109 = mrB := by rw [hr109, hr86, hr74, hr55, hRB, hpa, hsf]; rfl
        rw [eB]
        rw [hpa] at tail2
        exact tail2
      · skip
        have ty : tt y = some (.inl 0) := hOA y (List.mem_append_right _ (List.mem_of_head? hsf))
        refine j_aload_n C d_Orders_enter_53 rfl ?_
        refine j_aload_n C d_Orders_enter_54 rfl ?_
        refine j_putr C d_Orders_enter_55 fl_Orders_54 cl_Item (fun C T N h => by cases h; exact Or.inl rfl) rfl (by assumption) (by intro b hb; first | (cases hb; assumption) | cases hb) (fun f g => ⟨rfl, Nat.le_of_ble_eq_true rfl⟩) rfl (fun mr55 hr55 => ?_)
        refine j_aload_n C d_Orders_enter_58 rfl ?_
        refine j_aload_n C d_Orders_enter_59 rfl ?_
        refine j_ifnonnull_n (tgt := 70) C d_Orders_enter_60 (by decide) ?_
        refine j_aload_n C d_Orders_enter_63 rfl ?_
        refine j_getk (r := (some y)) C d_Orders_enter_64 fl_Orders_57 cl_Orders rfl (by assumption) rfl (by rw [hr55, up2_off _ _ _ _ hoa]; exact (hf0 hpa).trans hsf) (fun t64 => ?_)
        refine j_goto (tgt := 74) C d_Orders_enter_67 (by decide) ?_
        refine j_putr C d_Orders_enter_74 fl_Orders_60 cl_Item (fun C T N h => by cases h; exact Or.inl rfl) rfl (by assumption) (by intro b hb; first | (cases hb; assumption) | cases hb) (fun f g => ⟨rfl, Nat.le_of_ble_eq_true rfl⟩) rfl (fun mr74 hr74 => ?_)
        refine j_aload_n C d_Orders_enter_77 rfl ?_
        refine j_getk (r := none) C d_Orders_enter_78 fl_Orders_54 cl_Item rfl (by assumption) rfl (by rw [hr74, up2_ap, if_neg (by simp), hr55, up2_ap, if_pos ⟨rfl, rfl⟩]) (fun t78 => ?_)
        refine j_ifnonnull_n (tgt := 92) C d_Orders_enter_81 (by decide) ?_
        refine j_aload_n C d_Orders_enter_84 rfl ?_
        refine j_aload_n C d_Orders_enter_85 rfl ?_
        refine j_putr C d_Orders_enter_86 fl_Orders_57 cl_Orders (fun C T N h => by cases h; exact Or.inl rfl) rfl (by assumption) (by first | assumption | (intro b hb; cases hb; assumption) | (intro b hb; cases hb)) (fun f g => ⟨rfl, Nat.le_of_ble_eq_true rfl⟩) rfl (fun mr86 hr86 => ?_)
        refine j_goto (tgt := 100) C d_Orders_enter_89 (by decide) ?_
        refine j_aload_n C d_Orders_enter_100 rfl ?_
        refine j_getk (r := (some y)) C d_Orders_enter_101 fl_Orders_60 cl_Item rfl (by assumption) rfl (by rw [hr86, up2_ap, if_neg (fun z => hoa z.1.symm), hr74, up2_ap, if_pos ⟨rfl, rfl⟩]) (fun t101 => ?_)
        refine j_ifnonnull_s (tgt := 115) C d_Orders_enter_104 (by decide) ?_
        refine j_aload_n C d_Orders_enter_115 rfl ?_
        refine j_getk (r := (some y)) C d_Orders_enter_116 fl_Orders_60 cl_Item rfl (by assumption) rfl (by rw [hr86, up2_ap, if_neg (fun z => hoa z.1.symm), hr74, up2_ap, if_pos ⟨rfl, rfl⟩]) (fun t116 => ?_)
        refine j_aload_n C d_Orders_enter_119 rfl ?_
        refine j_putr C d_Orders_enter_120 fl_Orders_54 cl_Item (fun C T N h => by cases h; exact Or.inl rfl) rfl (by assumption) (by first | assumption | (intro b hb; cases hb; assumption) | (intro b hb; cases hb)) (fun f g => ⟨rfl, Nat.le_of_ble_eq_true rfl⟩) rfl (fun mr120 hr120 => ?_)
        have eB : mr120 = mrB := by rw [hr120, hr86, hr74, hr55, hRB, hpa, hsf]; rfl
        rw [eB]
        rw [hpa] at tail2
        exact tail2
    · rcases hsf : S.head? with _ | y
      · skip
        have hxa : x ≠ it i := fun e => haO (by rw [← e]; exact List.mem_append_left _ (List.mem_of_getLast? hpa))
        have tx : tt x = some (.inl 0) := hOA x (List.mem_append_left _ (List.mem_of_getLast? hpa))
        refine j_aload_n C d_Orders_enter_53 rfl ?_
        refine j_aload_n C d_Orders_enter_54 rfl ?_
        refine j_putr C d_Orders_enter_55 fl_Orders_54 cl_Item (fun C T N h => by cases h; exact Or.inl rfl) rfl (by assumption) (by intro b hb; first | (cases hb; assumption) | cases hb) (fun f g => ⟨rfl, Nat.le_of_ble_eq_true rfl⟩) rfl (fun mr55 hr55 => ?_)
        refine j_aload_n C d_Orders_enter_58 rfl ?_
        refine j_aload_n C d_Orders_enter_59 rfl ?_
        refine j_ifnonnull_s (tgt := 70) C d_Orders_enter_60 (by decide) ?_
        refine j_aload_n C d_Orders_enter_70 rfl ?_
        refine j_getk (r := none) C d_Orders_enter_71 fl_Orders_60 cl_Item rfl (by assumption) rfl (by rw [hr55, up2_ap, if_neg (by simp)]; exact (hf1 x hpa).trans hsf) (fun t71 => ?_)
        refine j_putr C d_Orders_enter_74 fl_Orders_60 cl_Item (fun C T N h => by cases h; exact Or.inl rfl) rfl (by assumption) (by intro b hb; first | (cases hb; assumption) | cases hb) (fun f g => ⟨rfl, Nat.le_of_ble_eq_true rfl⟩) rfl (fun mr74 hr74 => ?_)
        refine j_aload_n C d_Orders_enter_77 rfl ?_
        refine j_getk (r := (some x)) C d_Orders_enter_78 fl_Orders_54 cl_Item rfl (by assumption) rfl (by rw [hr74, up2_ap, if_neg (by simp), hr55, up2_ap, if_pos ⟨rfl, rfl⟩]) (fun t78 => ?_)
        refine j_ifnonnull_s (tgt := 92) C d_Orders_enter_81 (by decide) ?_
        refine j_aload_n C d_Orders_enter_92 rfl ?_
        refine j_getk (r := (some x)) C d_Orders_enter_93 fl_Orders_54 cl_Item rfl (by assumption) rfl (by rw [hr74, up2_ap, if_neg (by simp), hr55, up2_ap, if_pos ⟨rfl, rfl⟩]) (fun t93 => ?_)
        refine j_aload_n C d_Orders_enter_96 rfl ?_
        refine j_putr C d_Orders_enter_97 fl_Orders_60 cl_Item (fun C T N h => by cases h; exact Or.inl rfl) rfl (by assumption) (by first | assumption | (intro b hb; cases hb; assumption) | (intro b hb; cases hb)) (fun f g => ⟨rfl, Nat.le_of_ble_eq_true rfl⟩) rfl (fun mr97 hr97 => ?_)
        refine j_aload_n C d_Orders_enter_100 rfl ?_
        refine j_getk (r := none) C d_Orders_enter_101 fl_Orders_60 cl_Item rfl (by assumption) rfl (by rw [hr97, up2_ap, if_neg (fun z => hxa z.1.symm), hr74, up2_ap, if_pos ⟨rfl, rfl⟩]) (fun t101 => ?_)
        refine j_ifnonnull_n (tgt := 115) C d_Orders_enter_104 (by decide) ?_
        refine j_aload_n C d_Orders_enter_107 rfl ?_
        refine j_aload_n C d_Orders_enter_108 rfl ?_
        refine j_putr C d_Orders_enter_109 fl_Orders_46 cl_Orders (fun C T N h => by cases h; exact Or.inl rfl) rfl (by assumption) (by first | assumption | (intro b hb; cases hb; assumption) | (intro b hb; cases hb)) (fun f g => ⟨rfl, Nat.le_of_ble_eq_true rfl⟩) rfl (fun mr109 hr109 => ?_)
        refine j_goto (tgt := 123) C d_Orders_enter_112 (by decide) ?_
        have eB : mr109 = mrB := by rw [hr109, hr97, hr74, hr55, hRB, hpa, hsf]; rfl
        rw [eB]
        rw [hpa] at tail2
        exact tail2
      · skip
        have hxa : x ≠ it i := fun e => haO (by rw [← e]; exact List.mem_append_left _ (List.mem_of_getLast? hpa))
        have tx : tt x = some (.inl 0) := hOA x (List.mem_append_left _ (List.mem_of_getLast? hpa))
        have ty : tt y = some (.inl 0) := hOA y (List.mem_append_right _ (List.mem_of_head? hsf))
        refine j_aload_n C d_Orders_enter_53 rfl ?_
        refine j_aload_n C d_Orders_enter_54 rfl ?_
        refine j_putr C d_Orders_enter_55 fl_Orders_54 cl_Item (fun C T N h => by cases h; exact Or.inl rfl) rfl (by assumption) (by intro b hb; first | (cases hb; assumption) | cases hb) (fun f g => ⟨rfl, Nat.le_of_ble_eq_true rfl⟩) rfl (fun mr55 hr55 => ?_)
        refine j_aload_n C d_Orders_enter_58 rfl ?_
        refine j_aload_n C d_Orders_enter_59 rfl ?_
        refine j_ifnonnull_s (tgt := 70) C d_Orders_enter_60 (by decide) ?_
        refine j_aload_n C d_Orders_enter_70 rfl ?_
        refine j_getk (r := (some y)) C d_Orders_enter_71 fl_Orders_60 cl_Item rfl (by assumption) rfl (by rw [hr55, up2_ap, if_neg (by simp)]; exact (hf1 x hpa).trans hsf) (fun t71 => ?_)
        refine j_putr C d_Orders_enter_74 fl_Orders_60 cl_Item (fun C T N h => by cases h; exact Or.inl rfl) rfl (by assumption) (by intro b hb; first | (cases hb; assumption) | cases hb) (fun f g => ⟨rfl, Nat.le_of_ble_eq_true rfl⟩) rfl (fun mr74 hr74 => ?_)
        refine j_aload_n C d_Orders_enter_77 rfl ?_
        refine j_getk (r := (some x)) C d_Orders_enter_78 fl_Orders_54 cl_Item rfl (by assumption) rfl (by rw [hr74, up2_ap, if_neg (by simp), hr55, up2_ap, if_pos ⟨rfl, rfl⟩]) (fun t78 => ?_)
        refine j_ifnonnull_s (tgt := 92) C d_Orders_enter_81 (by decide) ?_
        refine j_aload_n C d_Orders_enter_92 rfl ?_
        refine j_getk (r := (some x)) C d_Orders_enter_93 fl_Orders_54 cl_Item rfl (by assumption) rfl (by rw [hr74, up2_ap, if_neg (by simp), hr55, up2_ap, if_pos ⟨rfl, rfl⟩]) (fun t93 => ?_)
        refine j_aload_n C d_Orders_enter_96 rfl ?_
        refine j_putr C d_Orders_enter_97 fl_Orders_60 cl_Item (fun C T N h => by cases h; exact Or.inl rfl) rfl (by assumption) (by first | assumption | (intro b hb; cases hb; assumption) | (intro b hb; cases hb)) (fun f g => ⟨rfl, Nat.le_of_ble_eq_true rfl⟩) rfl (fun mr97 hr97 => ?_)
        refine j_aload_n C d_Orders_enter_100 rfl ?_
        refine j_getk (r := (some y)) C d_Orders_enter_101 fl_Orders_60 cl_Item rfl (by assumption) rfl (by rw [hr97, up2_ap, if_neg (fun z => hxa z.1.symm), hr74, up2_ap, if_pos ⟨rfl, rfl⟩]) (fun t101 => ?_)
        refine j_ifnonnull_s (tgt := 115) C d_Orders_enter_104 (by decide) ?_
        refine j_aload_n C d_Orders_enter_115 rfl ?_
        refine j_getk (r := (some y)) C d_Orders_enter_116 fl_Orders_60 cl_Item rfl (by assumption) rfl (by rw [hr97, up2_ap, if_neg (fun z => hxa z.1.symm), hr74, up2_ap, if_pos ⟨rfl, rfl⟩]) (fun t116 => ?_)
        refine j_aload_n C d_Orders_enter_119 rfl ?_
        refine j_putr C d_Orders_enter_120 fl_Orders_54 cl_Item (fun C T N h => by cases h; exact Or.inl rfl) rfl (by assumption) (by first | assumption | (intro b hb; cases hb; assumption) | (intro b hb; cases hb)) (fun f g => ⟨rfl, Nat.le_of_ble_eq_true rfl⟩) rfl (fun mr120 hr120 => ?_)
        have eB : mr120 = mrB := by rw [hr120, hr97, hr74, hr55, hRB, hpa, hsf]; rfl
        rw [eB]
        rw [hpa] at tail2
        exact tail2
  have loop1 : ∀ (n : Nat) (S1 S2 : List Nat), S1.length < n → S = S1 ++ S2 → J X tt mi1 mr 0 0 33 [some (va_rf (some od)), some (va_rf (some (it i))), some (.int p), some (va_rf (P ++ S1).getLast?), none] [] := by
    intro n
    induction n with
    | zero => intro S1 S2 h; exact absurd h (by omega)
    | succ n ih =>
      intro S1 S2 hn1 hS1
      generalize hr : (P ++ S1).getLast? = r
      refine j_aload_n C d_Orders_enter_33 rfl ?_
      refine j_ifnull (tgt := 53) C d_Orders_enter_34 (by decide) (fun e34 => ?_) (fun b34 e34 => ?_)
      · first | subst e34 | skip
        obtain ⟨e1, e2⟩ := gl_nil hr
        rw [e1] at tail1
        exact tail1
      · first | subst e34 | skip
        have hbm : b34 ∈ P ++ S1 := List.mem_of_getLast? hr
        have hbm2 : b34 ∈ P ++ S := by rw [hS1, ← List.append_assoc]; exact List.mem_append_left _ hbm
        have tb := hOA b34 hbm2
        refine j_aload_n C d_Orders_enter_37 rfl ?_
        refine j_aload_n C d_Orders_enter_38 rfl ?_
        refine j_callVi C [va_rf (some b34)] d_Orders_enter_39 ml_Orders_50 mv_Item_isBefore k_Item_isBefore ⟨_, _, rfl⟩ ta (c_Item_isBefore _ _ _ ta tb) (by decide) (by decide) rfl (Nat.le_of_ble_eq_true rfl) (Nat.le_of_ble_eq_true rfl) rfl (by simp [cat_rf, cat_int]) ?_
        refine j_if_eq (tgt := 53) C d_Orders_enter_42 (by decide) (fun c42 => ?_) (fun c42 => ?_)
        · skip
          rw [bI_0] at c42
          rcases List.eq_nil_or_concat S1 with e1 | ⟨L, c, e1⟩
          · rw [e1, List.append_nil] at hr
            rw [hr] at tail1
            exact tail1
          · rw [List.concat_eq_append] at e1
            rw [e1, ← List.append_assoc, List.getLast?_concat] at hr
            cases hr
            exact absurd ((hSS b34 (by rw [hS1, e1]; simp)).symm.trans c42) (by decide)
        · skip
          rw [bI_0, Bool.not_eq_false] at c42
          rcases List.eq_nil_or_concat S1 with e1 | ⟨L, c, e1⟩
          · rw [e1, List.append_nil] at hr
            exact absurd ((hPP b34 hr).symm.trans c42) (by decide)
          rw [List.concat_eq_append] at e1
          rw [e1, ← List.append_assoc, List.getLast?_concat] at hr
          cases hr
          refine j_aload_n C d_Orders_enter_45 rfl ?_
          refine j_getk (r := (P ++ L).getLast?) C d_Orders_enter_46 fl_Orders_54 cl_Item rfl (by assumption) rfl (hLL.2.2 (P ++ L) b34 S2 (by rw [hS1, e1]; simp)).1 (fun t46 => ?_)
          refine j_astore_n C d_Orders_enter_49 (Nat.le_of_ble_eq_true rfl) ?_
          refine j_goto (tgt := 33) C d_Orders_enter_50 (by decide) ?_
          exact ih L (b34 :: S2) (by rw [e1] at hn1; simp at hn1; omega) (by rw [hS1, e1]; simp)
  refine j_aload_n C d_Orders_enter_0 rfl ?_
  refine j_dup C d_Orders_enter_1 (by first | rfl | exact cat_rf _) ?_
  refine j_geti C d_Orders_enter_2 fl_Orders_36 cl_Orders (by assumption) rfl ?_
  refine j_iconst (v := 1) C d_Orders_enter_5 (by decide) ?_
  refine j_iadd C d_Orders_enter_6 ?_
  refine j_puti C d_Orders_enter_7 fl_Orders_36 cl_Orders (fun C T N h => by cases h; exact Or.inl rfl) (by assumption) (fun f g => ⟨rfl, Nat.le_of_ble_eq_true rfl⟩) rfl rfl (fun mi7 hm7 => ?_)
  refine j_aload_n C d_Orders_enter_10 rfl ?_
  refine j_iload_n C d_Orders_enter_11 rfl ?_
  refine j_puti C d_Orders_enter_12 fl_Orders_40 cl_Item (fun C T N h => by cases h; exact Or.inl rfl) (by assumption) (fun f g => ⟨rfl, Nat.le_of_ble_eq_true rfl⟩) rfl rfl (fun mi12 hm12 => ?_)
  refine j_aload_n C d_Orders_enter_15 rfl ?_
  refine j_aload_n C d_Orders_enter_16 rfl ?_
  refine j_geti C d_Orders_enter_17 fl_Orders_36 cl_Orders (by assumption) rfl ?_
  refine j_puti C d_Orders_enter_20 fl_Orders_43 cl_Item (fun C T N h => by cases h; exact Or.inl rfl) (by assumption) (fun f g => ⟨rfl, Nat.le_of_ble_eq_true rfl⟩) rfl rfl (fun mi20 hm20 => ?_)
  refine j_aload_n C d_Orders_enter_23 rfl ?_
  refine j_iconst (v := 1) C d_Orders_enter_24 (by decide) ?_
  refine j_puti C d_Orders_enter_25 fl_Orders_32 cl_Item (fun C T N h => by cases h; exact Or.inl rfl) (by assumption) (fun f g => ⟨rfl, Nat.le_of_ble_eq_true rfl⟩) rfl rfl (fun mi25 hm25 => ?_)
  refine j_aload_n C d_Orders_enter_28 rfl ?_
  refine j_getk (r := (P ++ S).getLast?) C d_Orders_enter_29 fl_Orders_46 cl_Orders rfl (by assumption) rfl hLL.2.1 (fun t29 => ?_)
  refine j_astore_n C d_Orders_enter_32 (Nat.le_of_ble_eq_true rfl) ?_
  have e12 : mi12 od 5 = nI (nM M + 1) := by rw [hm12, up2_off _ _ _ _ hoa, hm7, up2_ap, if_pos ⟨rfl, rfl⟩, hV.1, nI_1]
  rw [e12] at hm20
  have e25 : mi25 = mi1 := by rw [hm25, hm20, hm12, hm7, hI1]; rfl
  rw [e25]
  exact loop1 (S.length + 1) S [] (by omega) (by simp)

set_option maxHeartbeats 4000000 in
set_option maxRecDepth 100000 in
/-- Orders.exit -/
theorem c_Orders_exit (l : Launch) (D : jD) (N0 : Nat) {tt : jT} {mi : jI} {mr : jR} {dk od ia ls ch : Nat} {it ma io : Nat → Nat} {M : Mt} (h : Dk tt mi mr dk od ia ls ch it ma io M) (hM : MI M) {i : Nat} (hi : i < 200) (hq : qdM M i = true) : Ct l D N0 2 0 0 y_Orders_exit b_Orders_exit 4 none [va_rf (some od), va_rf (some (it i))] tt mi mr (fun v tt' mi' mr' => v = none ∧ tt' = tt ∧ FrM tt mi mr mi' mr' ∧ Dk tt mi' mr' dk od ia ls ch it ma io (exitM M i)) := by
  refine Ct.of "OrderDesk$Orders" (by decide +kernel) rfl (by simp [cat_rf, cat_int]) (Nat.le_of_ble_eq_true rfl) (fun X hXl hXd hXn C E I hWT => ?_)
  subst hXl hXd hXn
  obtain ⟨ms, OA, Cs0, F0, LM0, hS, hV, hO, hL0⟩ := h
  have tod := hS.1.2.2.1
  obtain ⟨hia, ta, hnum, hma, tma, hrow, hnd, hmem⟩ := hS.2 i hi
  have hoa : od ≠ it i := kne tod ta (by simp)
  have hcnt : (tkM M i).length ≤ 8 := (hM.1 i hi).2.1
  obtain ⟨P, S, eOA⟩ := List.append_of_mem ((hO.2.2.2 (it i)).mpr ⟨i, hi, rfl, hq⟩)
  have hOA : ∀ x ∈ P ++ it i :: S, tt x = some (.inl 0) := fun x hx => hO.a hS (by rw [eOA]; exact hx)
  have hLL : LL mr od 2 3 6 7 (P ++ it i :: S) := by rw [← eOA]; exact hO.1
  have hndO : (P ++ it i :: S).Nodup := by rw [← eOA]; exact hO.2.2.1.nodup
  have hbeg := exit_beg hS hO hL0 eOA
  obtain ⟨r1, r2, r3⟩ := lnkR_items hS hOA
  obtain ⟨mrB, hRB⟩ : ∃ z, z = lnkR mr od 2 3 6 7 P.getLast? S.head? := ⟨_, rfl⟩
  rw [← hRB] at r1 r2 r3 hbeg
  have loop2 : ∀ (n k : Nat) (mi2 : jI) (mr2 : jR) (Cs : Nat → List Nat) (F : List Nat) (LM : Nat → List Nat) (x3 : Option Value), k ≤ (tkM M i).length → (tkM M i).length < k + n → FrL tt mi mrB mi2 mr2 → LInv tt mi2 mr2 ls ch io (fun m => plM M ms m ∧ m ∉ (ms i).take k) (fun _ => False) Cs F LM → J X tt mi2 mr2 0 0 60 [some (va_rf (some od)), some (va_rf (some (it i))), some (.int (nI k)), x3] [] := by
    intro n
    induction n with
    | zero => intro k mi2 mr2 Cs F LM x3 h1 h2; exact absurd h2 (by omega)
    | succ n ih =>
      intro k mi2 mr2 Cs F LM x3 hk hnk hF hL
      have fo := hF.1 od _ tod rfl
      have fa := hF.1 (it i) _ ta rfl
      have hsz : mi2 (it i) 2 = nI (tkM M i).length := by rw [fa.1]; exact (hV.2 i hi).2.2.2.1
      have hlin : mr2 od 1 = some ls := by rw [fo.2, r2 1 (by decide) (by decide)]; exact hS.1.2.2.2.2.1
      have hmem2 : mr2 (it i) 1 = some (ma i) := by rw [fa.2, r3 _ 1 (Ne.symm hoa) (by decide) (by decide)]; exact hma
      have hrow2 : ∀ k, k < 8 → mr2 (ma i) k = (ms i)[k]? := fun k hk => by rw [(hF.1 _ _ tma rfl).2, r1 _ (by rw [tma]; simp) (kne tma tod (by simp))]; exact hrow.2 k hk
      refine j_iload_n C d_Orders_exit_60 rfl ?_
      refine j_aload_n C d_Orders_exit_61 rfl ?_
      refine j_geti C d_Orders_exit_62 fl_Orders_63 cl_Item (by assumption) rfl ?_
      refine j_icmp_ge (tgt := 109) C d_Orders_exit_65 (by decide) (fun c65 => ?_) (fun c65 => ?_)
      · skip
        rw [hsz, nI_leI (by omega) (by omega)] at c65
        have ek : k = (tkM M i).length := by omega
        subst ek
        refine j_aload_n C d_Orders_exit_109 rfl ?_
        refine j_iconst (v := 0) C d_Orders_exit_110 (by decide) ?_
        refine j_puti C d_Orders_exit_111 fl_Orders_32 cl_Item (fun C T N h => by cases h; exact Or.inl rfl) (by assumption) (fun f g => ⟨rfl, Nat.le_of_ble_eq_true rfl⟩) rfl rfl (fun mi111 hm111 => ?_)
        refine j_aload_n C d_Orders_exit_114 rfl ?_
        refine j_dup C d_Orders_exit_115 (by first | rfl | exact cat_rf _) ?_
        refine j_geti C d_Orders_exit_116 fl_Orders_85 cl_Orders (by assumption) rfl ?_
        refine j_iconst (v := 1) C d_Orders_exit_119 (by decide) ?_
        refine j_isub C d_Orders_exit_120 ?_
        refine j_puti C d_Orders_exit_121 fl_Orders_85 cl_Orders (fun C T N h => by cases h; exact Or.inl rfl) (by assumption) (fun f g => ⟨rfl, Nat.le_of_ble_eq_true rfl⟩) rfl rfl (fun mi121 hm121 => ?_)
        refine j_vret C E d_Orders_exit_124 ?_
        have em : mi121 = up2 (up2 mi2 (it i) 5 0) od 4 (mi2 od 4 - 1) := by rw [hm121, hm111]; congr 1; rw [up2_off _ _ _ _ hoa]
        subst em hRB
        obtain ⟨d1, d2⟩ := exit_end hS hV hO hi eOA hF hL
        exact ⟨rfl, rfl, d2, d1⟩
      · skip
        rw [hsz, nI_leI (by omega) (by omega)] at c65
        obtain ⟨m, hm⟩ := getE (ms := ms i) (k := k) (by rw [hrow.1]; omega)
        have hmi : m ∈ ms i := List.mem_of_getElem? hm
        obtain ⟨tm, hm0, eim⟩ := hmem m hmi
        have hpm : plM M ms m ∧ m ∉ (ms i).take k := ⟨⟨i, hi, hq, List.mem_of_getElem? (i := k) (by rw [List.getElem?_take_of_lt (by omega)]; exact hm)⟩, not_mem_take hnd hm⟩
        obtain ⟨q, A, B, hqU, hmq, hqp, hLq, tq⟩ := hL.lineOf hpm
        refine j_aload_n C d_Orders_exit_68 rfl ?_
        refine j_gets C d_Orders_exit_69 fl_Orders_66 cl_Item rfl (by assumption) rfl hmem2 (fun t69 => ?_)
        refine j_iload_n C d_Orders_exit_72 rfl ?_
        refine j_aalds C k d_Orders_exit_73 (by assumption) (by decide) rfl (by omega) (by decide) ((hrow2 k (by omega)).trans hm) (fun t73 => ?_)
        refine j_gets C d_Orders_exit_74 fl_Orders_86 cl_Member rfl (by assumption) rfl hmq (fun t74 => ?_)
        refine j_astore_n C d_Orders_exit_77 (Nat.le_of_ble_eq_true rfl) ?_
        refine j_aload_n C d_Orders_exit_78 rfl ?_
        refine j_aload_n C d_Orders_exit_79 rfl ?_
        refine j_gets C d_Orders_exit_80 fl_Orders_66 cl_Item rfl (by assumption) rfl hmem2 (fun t80 => ?_)
        refine j_iload_n C d_Orders_exit_83 rfl ?_
        refine j_aalds C k d_Orders_exit_84 (by assumption) (by decide) rfl (by omega) (by decide) ((hrow2 k (by omega)).trans hm) (fun t84 => ?_)
        refine j_callV C [va_rf (some m)] d_Orders_exit_85 ml_Orders_90 mv_Line_remove k_Line_remove ⟨_, _, rfl⟩ tq (c_removeL _ _ _ hL hqU hLq) (by decide) (by decide) rfl (Nat.le_of_ble_eq_true rfl) (Nat.le_of_ble_eq_true rfl) rfl (by simp [cat_rf, cat_int]) (fun v85 tt85 mi85 mr85 p85 => ?_)
        obtain ⟨rfl, rfl, hF1, LM1, hL1, hLq1⟩ := p85
        change J X _ mi85 mr85 0 0 88 _ []
        refine j_aload_n C d_Orders_exit_88 rfl ?_
        refine j_geti C d_Orders_exit_89 fl_Orders_93 cl_Line tq rfl ?_
        refine j_if_ne (tgt := 103) C d_Orders_exit_92 (by decide) (fun c92 => ?_) (fun c92 => ?_)
        · skip
          have hne : LM1 q ≠ [] := fun z => c92 (by rw [(hL1.2.2.2.2.2.2.1 q (List.mem_append_right _ hqU)).2.2, z]; rfl)
          have hL3 := hL1.full hne
          have hF3 := hF.trans hF1
          first | (obtain ⟨rfl, rfl, hF2, Cs3, F3, hL3⟩ := p100; have hF3 := hF.trans (hF1.trans hF2)) | skip
          refine j_iinc C d_Orders_exit_103 rfl (nI_1 k) ?_
          refine j_goto (tgt := 60) C d_Orders_exit_106 (by decide) ?_
          exact ih (k + 1) _ _ _ _ _ _ (by omega) (by omega) hF3 (hL3.congr (fun _ _ _ => ⟨rfl, rfl⟩) (fun _ _ => ⟨rfl, rfl⟩) (fun x => by rw [take_succ_mem hm, not_or, and_assoc]) (fun _ z => z))
        · skip
          have hnil : LM1 q = [] := by
            have hlen := LInv.few (M := M) hS hL1 (fun x hx => hx.1.1) hqU
            have hz : ¬ mi85 q 1 = 0 → False := fun w => w (by simpa using c92)
            have hz2 : mi85 q 1 = 0 := by simpa using c92
            rw [(hL1.2.2.2.2.2.2.1 q (List.mem_append_right _ hqU)).2.2, show (0 : Int32) = nI 0 from rfl, nI_eq (by omega) (by omega)] at hz2
            exact List.length_eq_zero_iff.mp hz2
          refine j_aload_n C d_Orders_exit_95 rfl ?_
          refine j_gets (b := ls) C d_Orders_exit_96 fl_Orders_24 cl_Orders rfl (by assumption) rfl (by rw [(hF1.1 _ _ tod rfl).2]; exact hlin) (fun t96 => ?_)
          refine j_aload_n C d_Orders_exit_99 rfl ?_
          refine j_callV C [va_rf (some q)] d_Orders_exit_100 ml_Orders_94 mv_Lines_drop k_Lines_drop ⟨_, _, rfl⟩ (by assumption) (c_dropL _ _ _ hL1 hqU hnil) (by decide) (by decide) rfl (Nat.le_of_ble_eq_true rfl) (Nat.le_of_ble_eq_true rfl) rfl (by simp [cat_rf, cat_int]) (fun v100 tt100 mi100 mr100 p100 => ?_)
          first | (obtain ⟨rfl, rfl, hF2, Cs3, F3, hL3⟩ := p100; have hF3 := hF.trans (hF1.trans hF2)) | skip
          refine j_iinc C d_Orders_exit_103 rfl (nI_1 k) ?_
          refine j_goto (tgt := 60) C d_Orders_exit_106 (by decide) ?_
          exact ih (k + 1) _ _ _ _ _ _ (by omega) (by omega) hF3 (hL3.congr (fun _ _ _ => ⟨rfl, rfl⟩) (fun _ _ => ⟨rfl, rfl⟩) (fun x => by rw [take_succ_mem hm, not_or, and_assoc]) (fun _ z => z))
  have tail2 : J X tt mi mrB 0 0 58 [some (va_rf (some od)), some (va_rf (some (it i))), none, none] [] := by
    refine j_iconst (v := 0) C d_Orders_exit_58 (by decide) ?_
    refine j_istore_n C d_Orders_exit_59 (Nat.le_of_ble_eq_true rfl) ?_
    exact loop2 ((tkM M i).length + 1) 0 mi mrB Cs0 F0 LM0 none (by omega) (by omega) FrL.refl hbeg
  have hA0 := hLL.at
  rcases hpa : P.getLast? with _ | x
  · rcases hsf : S.head? with _ | y
    · skip
      refine j_aload_n C d_Orders_exit_0 rfl ?_
      refine j_getk (r := none) C d_Orders_exit_1 fl_Orders_54 cl_Item rfl (by assumption) rfl (hA0.1.trans hpa) (fun t1 => ?_)
      refine j_ifnonnull_n (tgt := 18) C d_Orders_exit_4 (by decide) ?_
      refine j_aload_n C d_Orders_exit_7 rfl ?_
      refine j_aload_n C d_Orders_exit_8 rfl ?_
      refine j_getk (r := none) C d_Orders_exit_9 fl_Orders_60 cl_Item rfl (by assumption) rfl (hA0.2.trans hsf) (fun t9 => ?_)
      refine j_putr C d_Orders_exit_12 fl_Orders_57 cl_Orders (fun C T N h => by cases h; exact Or.inl rfl) rfl (by assumption) (by intro b hb; first | (cases hb; assumption) | cases hb) (fun f g => ⟨rfl, Nat.le_of_ble_eq_true rfl⟩) rfl (fun mr12 hr12 => ?_)
      refine j_goto (tgt := 29) C d_Orders_exit_15 (by decide) ?_
      refine j_aload_n C d_Orders_exit_29 rfl ?_
      refine j_getk (r := none) C d_Orders_exit_30 fl_Orders_60 cl_Item rfl (by assumption) rfl (by rw [hr12, up2_ap, if_neg (by intro z; exact hoa z.1.symm)]; exact (hA0.2.trans hsf)) (fun t30 => ?_)
      refine j_ifnonnull_n (tgt := 47) C d_Orders_exit_33 (by decide) ?_
      refine j_aload_n C d_Orders_exit_36 rfl ?_
      refine j_aload_n C d_Orders_exit_37 rfl ?_
      refine j_getk (r := none) C d_Orders_exit_38 fl_Orders_54 cl_Item rfl (by assumption) rfl (by rw [hr12, up2_ap, if_neg (by intro z; exact hoa z.1.symm)]; exact (hA0.1.trans hpa)) (fun t38 => ?_)
      refine j_putr C d_Orders_exit_41 fl_Orders_46 cl_Orders (fun C T N h => by cases h; exact Or.inl rfl) rfl (by assumption) (by intro b hb; first | (cases hb; assumption) | cases hb) (fun f g => ⟨rfl, Nat.le_of_ble_eq_true rfl⟩) rfl (fun mr41 hr41 => ?_)
      refine j_goto (tgt := 58) C d_Orders_exit_44 (by decide) ?_
      have eB : mr41 = mrB := by rw [hr41, hr12, hRB, hpa, hsf]; rfl
      rw [eB]
      exact tail2
    · skip
      have ty : tt y = some (.inl 0) := hOA y (List.mem_append_right _ (List.mem_cons_of_mem _ (List.mem_of_head? hsf)))
      refine j_aload_n C d_Orders_exit_0 rfl ?_
      refine j_getk (r := none) C d_Orders_exit_1 fl_Orders_54 cl_Item rfl (by assumption) rfl (hA0.1.trans hpa) (fun t1 => ?_)
      refine j_ifnonnull_n (tgt := 18) C d_Orders_exit_4 (by decide) ?_
      refine j_aload_n C d_Orders_exit_7 rfl ?_
      refine j_aload_n C d_Orders_exit_8 rfl ?_
      refine j_getk (r := (some y)) C d_Orders_exit_9 fl_Orders_60 cl_Item rfl (by assumption) rfl (hA0.2.trans hsf) (fun t9 => ?_)
      refine j_putr C d_Orders_exit_12 fl_Orders_57 cl_Orders (fun C T N h => by cases h; exact Or.inl rfl) rfl (by assumption) (by intro b hb; first | (cases hb; assumption) | cases hb) (fun f g => ⟨rfl, Nat.le_of_ble_eq_true rfl⟩) rfl (fun mr12 hr12 => ?_)
      refine j_goto (tgt := 29) C d_Orders_exit_15 (by decide) ?_
      refine j_aload_n C d_Orders_exit_29 rfl ?_
      refine j_getk (r := (some y)) C d_Orders_exit_30 fl_Orders_60 cl_Item rfl (by assumption) rfl (by rw [hr12, up2_ap, if_neg (by intro z; exact hoa z.1.symm)]; exact (hA0.2.trans hsf)) (fun t30 => ?_)
      refine j_ifnonnull_s (tgt := 47) C d_Orders_exit_33 (by decide) ?_
      refine j_aload_n C d_Orders_exit_47 rfl ?_
      refine j_getk (r := (some y)) C d_Orders_exit_48 fl_Orders_60 cl_Item rfl (by assumption) rfl (by rw [hr12, up2_ap, if_neg (by intro z; exact hoa z.1.symm)]; exact (hA0.2.trans hsf)) (fun t48 => ?_)
      refine j_aload_n C d_Orders_exit_51 rfl ?_
      refine j_getk (r := none) C d_Orders_exit_52 fl_Orders_54 cl_Item rfl (by assumption) rfl (by rw [hr12, up2_ap, if_neg (by intro z; exact hoa z.1.symm)]; exact (hA0.1.trans hpa)) (fun t52 => ?_)
      refine j_putr C d_Orders_exit_55 fl_Orders_54 cl_Item (fun C T N h => by cases h; exact Or.inl rfl) rfl (by assumption) (by intro b hb; first | (cases hb; assumption) | cases hb) (fun f g => ⟨rfl, Nat.le_of_ble_eq_true rfl⟩) rfl (fun mr55 hr55 => ?_)
      have eB : mr55 = mrB := by rw [hr55, hr12, hRB, hpa, hsf]; rfl
      rw [eB]
      exact tail2
  · rcases hsf : S.head? with _ | y
    · skip
      have hxa : x ≠ it i := fun e => (List.nodup_append.mp hndO).2.2 x (List.mem_of_getLast? hpa) _ List.mem_cons_self e
      have tx : tt x = some (.inl 0) := hOA x (List.mem_append_left _ (List.mem_of_getLast? hpa))
      refine j_aload_n C d_Orders_exit_0 rfl ?_
      refine j_getk (r := (some x)) C d_Orders_exit_1 fl_Orders_54 cl_Item rfl (by assumption) rfl (hA0.1.trans hpa) (fun t1 => ?_)
      refine j_ifnonnull_s (tgt := 18) C d_Orders_exit_4 (by decide) ?_
      refine j_aload_n C d_Orders_exit_18 rfl ?_
      refine j_getk (r := (some x)) C d_Orders_exit_19 fl_Orders_54 cl_Item rfl (by assumption) rfl (hA0.1.trans hpa) (fun t19 => ?_)
      refine j_aload_n C d_Orders_exit_22 rfl ?_
      refine j_getk (r := none) C d_Orders_exit_23 fl_Orders_60 cl_Item rfl (by assumption) rfl (hA0.2.trans hsf) (fun t23 => ?_)
      refine j_putr C d_Orders_exit_26 fl_Orders_60 cl_Item (fun C T N h => by cases h; exact Or.inl rfl) rfl (by assumption) (by intro b hb; first | (cases hb; assumption) | cases hb) (fun f g => ⟨rfl, Nat.le_of_ble_eq_true rfl⟩) rfl (fun mr26 hr26 => ?_)
      refine j_aload_n C d_Orders_exit_29 rfl ?_
      refine j_getk (r := none) C d_Orders_exit_30 fl_Orders_60 cl_Item rfl (by assumption) rfl (by rw [hr26, up2_ap, if_neg (by intro z; exact hxa z.1.symm)]; exact (hA0.2.trans hsf)) (fun t30 => ?_)
      refine j_ifnonnull_n (tgt := 47) C d_Orders_exit_33 (by decide) ?_
      refine j_aload_n C d_Orders_exit_36 rfl ?_
      refine j_aload_n C d_Orders_exit_37 rfl ?_
      refine j_getk (r := (some x)) C d_Orders_exit_38 fl_Orders_54 cl_Item rfl (by assumption) rfl (by rw [hr26, up2_ap, if_neg (by intro z; exact absurd z.2 (by decide))]; exact (hA0.1.trans hpa)) (fun t38 => ?_)
      refine j_putr C d_Orders_exit_41 fl_Orders_46 cl_Orders (fun C T N h => by cases h; exact Or.inl rfl) rfl (by assumption) (by intro b hb; first | (cases hb; assumption) | cases hb) (fun f g => ⟨rfl, Nat.le_of_ble_eq_true rfl⟩) rfl (fun mr41 hr41 => ?_)
      refine j_goto (tgt := 58) C d_Orders_exit_44 (by decide) ?_
      have eB : mr41 = mrB := by rw [hr41, hr26, hRB, hpa, hsf]; rfl
      rw [eB]
      exact tail2
    · skip
      have hxa : x ≠ it i := fun e => (List.nodup_append.mp hndO).2.2 x (List.mem_of_getLast? hpa) _ List.mem_cons_self e
      have tx : tt x = some (.inl 0) := hOA x (List.mem_append_left _ (List.mem_of_getLast? hpa))
      have ty : tt y = some (.inl 0) := hOA y (List.mem_append_right _ (List.mem_cons_of_mem _ (List.mem_of_head? hsf)))
      refine j_aload_n C d_Orders_exit_0 rfl ?_
      refine j_getk (r := (some x)) C d_Orders_exit_1 fl_Orders_54 cl_Item rfl (by assumption) rfl (hA0.1.trans hpa) (fun t1 => ?_)
      refine j_ifnonnull_s (tgt := 18) C d_Orders_exit_4 (by decide) ?_
      refine j_aload_n C d_Orders_exit_18 rfl ?_
      refine j_getk (r := (some x)) C d_Orders_exit_19 fl_Orders_54 cl_Item rfl (by assumption) rfl (hA0.1.trans hpa) (fun t19 => ?_)
      refine j_aload_n C d_Orders_exit_22 rfl ?_
      refine j_getk (r := (some y)) C d_Orders_exit_23 fl_Orders_60 cl_Item rfl (by assumption) rfl (hA0.2.trans hsf) (fun t23 => ?_)
      refine j_putr C d_Orders_exit_26 fl_Orders_60 cl_Item (fun C T N h => by cases h; exact Or.inl rfl) rfl (by assumption) (by intro b hb; first | (cases hb; assumption) | cases hb) (fun f g => ⟨rfl, Nat.le_of_ble_eq_true rfl⟩) rfl (fun mr26 hr26 => ?_)
      refine j_aload_n C d_Orders_exit_29 rfl ?_
      refine j_getk (r := (some y)) C d_Orders_exit_30 fl_Orders_60 cl_Item rfl (by assumption) rfl (by rw [hr26, up2_ap, if_neg (by intro z; exact hxa z.1.symm)]; exact (hA0.2.trans hsf)) (fun t30 => ?_)
      refine j_ifnonnull_s (tgt := 47) C d_Orders_exit_33 (by decide) ?_
      refine j_aload_n C d_Orders_exit_47 rfl ?_
      refine j_getk (r := (some y)) C d_Orders_exit_48 fl_Orders_60 cl_Item rfl (by assumption) rfl (by rw [hr26, up2_ap, if_neg (by intro z; exact hxa z.1.symm)]; exact (hA0.2.trans hsf)) (fun t48 => ?_)
      refine j_aload_n C d_Orders_exit_51 rfl ?_
      refine j_getk (r := (some x)) C d_Orders_exit_52 fl_Orders_54 cl_Item rfl (by assumption) rfl (by rw [hr26, up2_ap, if_neg (by intro z; exact absurd z.2 (by decide))]; exact (hA0.1.trans hpa)) (fun t52 => ?_)
      refine j_putr C d_Orders_exit_55 fl_Orders_54 cl_Item (fun C T N h => by cases h; exact Or.inl rfl) rfl (by assumption) (by intro b hb; first | (cases hb; assumption) | cases hb) (fun f g => ⟨rfl, Nat.le_of_ble_eq_true rfl⟩) rfl (fun mr55 hr55 => ?_)
      have eB : mr55 = mrB := by rw [hr55, hr26, hRB, hpa, hsf]; rfl
      rw [eB]
      exact tail2
end
section
/-! PLAIN LAWS 7: an item's row grows, shrinks -/
section ROW
variable {tt : jT} {mi : jI} {mr : jR} {dk od ia ls ch : Nat} {it ma io : Nat → Nat} {ms : Nat → List Nat} {OA : List Nat} {Cs : Nat → List Nat} {F : List Nat} {LM : Nat → List Nat} {M : Mt}
theorem keepL (hS : Sh tt mi mr dk od ia ls it ma io ms) (hV : Vl mi od it ms M) (hO : Od mi mr od it OA M) {mi' : jI} {mr' : jR} (hF : FrL tt mi mr mi' mr') : Sh tt mi' mr' dk od ia ls it ma io ms ∧ Vl mi' od it ms M ∧ Od mi' mr' od it OA M := by
  have tod := hS.1.2.2.1
  have fo := hF.1 od _ tod rfl
  have fI : ∀ j, j < 200 → mi' (it j) = mi (it j) ∧ mr' (it j) = mr (it j) := fun j hj => hF.1 _ _ (hS.2 j hj).2.1 rfl
  have fm : ∀ j, j < 200 → ∀ m ∈ ms j, mi' m = mi m ∧ mr' m 0 = mr m 0 := fun j hj m hm => hF.2 m ((hS.2 j hj).2.2.2.2.2.2.2 m hm).1
  refine ⟨hS.congr ?_ ?_ ?_ (fun j hj => ⟨?_, ?_, ?_⟩) (fun j hj m hm => (fm j hj m hm).2), ⟨by rw [fo.1]; exact hV.1, fun j hj => ?_⟩, ⟨hO.1.congr (by rw [fo.2]; exact ⟨rfl, rfl⟩) (fun x hx => ?_), by rw [fo.1]; exact hO.2.1, hO.2.2.1.congr (fun x hx => ?_), hO.2.2.2⟩⟩
  · rw [(hF.1 dk _ hS.1.1 rfl).2]
  · rw [fo.2]; exact ⟨rfl, rfl⟩
  · rw [(hF.1 ia _ hS.1.2.2.2.2.2 rfl).2]
  · rw [(fI j hj).1]
  · rw [(fI j hj).2]
  · rw [(hF.1 _ _ (hS.2 j hj).2.2.2.2.1 rfl).2]
  · obtain ⟨v1, v2, v3, v4, v5⟩ := hV.2 j hj
    rw [(fI j hj).1]
    refine ⟨v1, v2, v3, v4, Eq.trans (List.map_congr_left (fun m hm => ?_)) v5⟩
    rw [(fm j hj m (List.mem_of_mem_take hm)).1]
  · rw [(hF.1 x _ (hO.a hS hx) rfl).2]; exact ⟨rfl, rfl⟩
  · show mi' x 3 = mi x 3 ∧ mi' x 4 = mi x 4
    rw [(hF.1 x _ (hO.a hS hx) rfl).1]; exact ⟨rfl, rfl⟩
theorem find_row {mi : jI} {L : List Nat} {tk : List Int32} (h : L.map (fun m => mi m 1) = tk) (p : Int32) : L.find? (fun m => decide (mi m 1 = p)) = none ↔ p ∉ tk := by
  rw [← h, List.find?_eq_none]
  constructor
  · intro h1 h2
    obtain ⟨m, hm, e⟩ := List.mem_map.mp h2
    exact h1 m hm (by simpa using e)
  · intro h1 m hm h2
    exact h1 (List.mem_map.mpr ⟨m, hm, by simpa using h2⟩)
def rowI (mi : jI) (m a : Nat) (p : Int32) (c : Nat) : jI := up2 (up2 mi m 1 p) a 2 (nI c)
theorem row_add (hS : Sh tt mi mr dk od ia ls it ma io ms) (hV : Vl mi od it ms M) (hO : Od mi mr od it OA M) (hL : LInv tt mi mr ls ch io (plM M ms) (fun _ => False) Cs F LM) {i m : Nat} (hi : i < 200) (p : Int32) (hm : (ms i)[(tkM M i).length]? = some m) :
    Sh tt (rowI mi m (it i) p ((tkM M i).length + 1)) mr dk od ia ls it ma io ms ∧ Vl (rowI mi m (it i) p ((tkM M i).length + 1)) od it ms (rowTo M i (tkM M i ++ [p])) ∧ Od (rowI mi m (it i) p ((tkM M i).length + 1)) mr od it OA (rowTo M i (tkM M i ++ [p])) ∧ LInv tt (rowI mi m (it i) p ((tkM M i).length + 1)) mr ls ch io (plM M ms) (fun _ => False) Cs F LM ∧ ¬ plM M ms m ∧ FrM tt mi mr (rowI mi m (it i) p ((tkM M i).length + 1)) mr := by
  obtain ⟨-, ta, -, -, -, hrow, hnd, hmem⟩ := hS.2 i hi
  have tod := hS.1.2.2.1
  have hmi : m ∈ ms i := List.mem_of_getElem? hm
  obtain ⟨tm, hm0, eim⟩ := hmem m hmi
  have hma : m ≠ it i := kne tm ta (by simp)
  have hnp : ¬ plM M ms m := by
    rintro ⟨j, hj, hqj, hmj⟩
    have := hS.dis hj hi (List.mem_of_mem_take hmj) hmi
    subst this
    exact not_mem_take hnd hm hmj
  generalize hI : rowI mi m (it i) p ((tkM M i).length + 1) = mi1
  have I1 : ∀ b, b ≠ m → b ≠ it i → mi1 b = mi b := fun b h1 h2 => by rw [← hI]; unfold rowI; rw [up2_off _ _ _ _ h2, up2_off _ _ _ _ h1]
  have I2 : ∀ y, y ≠ 2 → mi1 (it i) y = mi (it i) y := fun y hy => by rw [← hI]; simp [rowI, up2_ap, hy, Ne.symm hma]
  have I3 : mi1 (it i) 2 = nI ((tkM M i).length + 1) := by rw [← hI]; simp [rowI, up2_ap]
  have I4 : mi1 m 1 = p := by rw [← hI]; simp [rowI, up2_ap, hma]
  have Iod : mi1 od = mi od := I1 od (kne tod tm (by simp)) (kne tod ta (by simp))
  have hit : ∀ j, j < 200 → ∀ y, y ≠ 2 → mi1 (it j) y = mi (it j) y := fun j hj y hy => by
    by_cases z : it j = it i
    · rw [z]; exact I2 y hy
    · rw [I1 _ (kne (hS.2 j hj).2.1 tm (by simp)) z]
  refine ⟨hS.congr rfl ⟨rfl, rfl⟩ rfl (fun j hj => ⟨hit j hj 0 (by decide), rfl, rfl⟩) (fun _ _ _ _ => rfl), ⟨by rw [Iod]; exact hV.1, fun j hj => ?_⟩, ⟨hO.1, by rw [Iod]; exact hO.2.1, hO.2.2.1.congr (fun x hx => ?_), hO.2.2.2⟩, ?_, hnp, ?_⟩
  · obtain ⟨v1, v2, v3, v4, v5⟩ := hV.2 j hj
    refine ⟨(hit j hj 5 (by decide)).trans v1, (hit j hj 3 (by decide)).trans v2, (hit j hj 4 (by decide)).trans v3, ?_, ?_⟩
    · by_cases z : j = i
      · subst z
        rw [I3]
        simp [rowTo, tkM, va_up]
      · rw [I1 _ (kne (hS.2 j hj).2.1 tm (by simp)) (fun w => z (hS.inj hj hi w)), v4]
        simp [rowTo, tkM, va_up, z]
    · by_cases z : j = i
      · subst z
        have e1 : tkM (rowTo M j (tkM M j ++ [p])) j = tkM M j ++ [p] := by simp [rowTo, tkM, va_up]
        rw [e1, List.length_append, List.length_singleton, List.take_add_one, hm]
        simp only [Option.toList_some, List.map_append, List.map_cons, List.map_nil]
        rw [I4]
        congr 1
        refine Eq.trans (List.map_congr_left (fun x hx => ?_)) v5
        have hxm : x ≠ m := fun w => not_mem_take hnd hm (w ▸ hx)
        have hxj := List.mem_of_mem_take hx
        rw [I1 x hxm (kne (hmem x hxj).1 ta (by simp))]
      · have e1 : tkM (rowTo M i (tkM M i ++ [p])) j = tkM M j := by simp [rowTo, tkM, va_up, z]
        rw [e1]
        refine Eq.trans (List.map_congr_left (fun x hx => ?_)) v5
        have hxj := List.mem_of_mem_take hx
        have hxm : x ≠ m := fun w => z (hS.dis hj hi hxj (w ▸ hmi))
        rw [I1 x hxm (kne ((hS.2 j hj).2.2.2.2.2.2.2 x hxj).1 ta (by simp))]
  · show mi1 x 3 = mi x 3 ∧ mi1 x 4 = mi x 4
    obtain ⟨j, hj, ej, -⟩ := (hO.2.2.2 x).mp hx
    rw [ej]
    exact ⟨hit j hj 3 (by decide), hit j hj 4 (by decide)⟩
  · refine hL.congr (fun a ha hp => ⟨I1 a (fun z => ?_) (fun z => ?_), rfl⟩) (fun x hx => ?_) (fun _ => Iff.rfl) (fun _ z => z)
    · exact hnp (z ▸ hp (by rw [z]; exact tm))
    · rw [z, ta] at ha
      rcases ha with h | h | h | h <;> cases h
    · obtain ⟨j, hj, hqj, hmj⟩ := hx
      rw [((hS.2 j hj).2.2.2.2.2.2.2 x (List.mem_of_mem_take hmj)).2.2]
      exact ⟨hit j hj 3 (by decide), hit j hj 4 (by decide)⟩
  · intro a q ha hq
    refine ⟨I1 a (fun z => ?_) (fun z => ?_), rfl⟩
    · rw [z, tm] at ha; cases ha; simp [mK] at hq
    · rw [z, ta] at ha; cases ha; simp [mK] at hq
/-- the row of an item that isn't queued grows -/
theorem row_out (hS : Sh tt mi mr dk od ia ls it ma io ms) (hV : Vl mi od it ms M) (hO : Od mi mr od it OA M) (hL : LInv tt mi mr ls ch io (plM M ms) (fun _ => False) Cs F LM) {i m : Nat} (hi : i < 200) (hq : qdM M i = false) (p : Int32) (hm : (ms i)[(tkM M i).length]? = some m) : Dk tt (rowI mi m (it i) p ((tkM M i).length + 1)) mr dk od ia ls ch it ma io (rowTo M i (tkM M i ++ [p])) := by
  obtain ⟨h1, h2, h3, h4, -, -⟩ := row_add hS hV hO hL hi p hm
  refine ⟨ms, OA, Cs, F, LM, h1, h2, h3, h4.congr (fun _ _ _ => ⟨rfl, rfl⟩) (fun _ _ => ⟨rfl, rfl⟩) (fun x => ?_) (fun _ z => z)⟩
  constructor
  · rintro ⟨j, hj, hqj, hmj⟩
    have hqj : qdM M j = true := hqj
    have z : j ≠ i := fun z => by rw [z, hq] at hqj; cases hqj
    exact ⟨j, hj, hqj, by simpa [rowTo, tkM, va_up, z] using hmj⟩
  · rintro ⟨j, hj, hqj, hmj⟩
    have z : j ≠ i := fun z => by rw [z, hq] at hqj; cases hqj
    exact ⟨j, hj, hqj, by simpa [rowTo, tkM, va_up, z] using hmj⟩
/-- the row of a queued item has grown, its new member stands in its line -/
theorem row_in (hS : Sh tt mi mr dk od ia ls it ma io ms) (hV : Vl mi od it ms M) (hO : Od mi mr od it OA M) (hL : LInv tt mi mr ls ch io (plM M ms) (fun _ => False) Cs F LM) {i m : Nat} (hi : i < 200) (hq : qdM M i = true) (p : Int32) (hm : (ms i)[(tkM M i).length]? = some m) {mi2 : jI} {mr2 : jR} (hF : FrL tt (rowI mi m (it i) p ((tkM M i).length + 1)) mr mi2 mr2) {Cs' : Nat → List Nat} {F' : List Nat} {LM' : Nat → List Nat} (hL2 : LInv tt mi2 mr2 ls ch io (fun x => plM M ms x ∨ x = m) (fun _ => False) Cs' F' LM') :
    Dk tt mi2 mr2 dk od ia ls ch it ma io (rowTo M i (tkM M i ++ [p])) ∧ FrM tt mi mr mi2 mr2 := by
  obtain ⟨h1, h2, h3, -, -, h6⟩ := row_add hS hV hO hL hi p hm
  obtain ⟨g1, g2, g3⟩ := keepL h1 h2 h3 hF
  refine ⟨⟨ms, OA, Cs', F', LM', g1, g2, g3, hL2.congr (fun _ _ _ => ⟨rfl, rfl⟩) (fun _ _ => ⟨rfl, rfl⟩) (fun x => ?_) (fun _ z => z)⟩, h6.trans hF.M⟩
  constructor
  · rintro ⟨j, hj, hqj, hmj⟩
    by_cases z : j = i
    · subst z
      have e1 : tkM (rowTo M j (tkM M j ++ [p])) j = tkM M j ++ [p] := by simp [rowTo, tkM, va_up]
      rw [e1, List.length_append, List.length_singleton, take_succ_mem hm] at hmj
      rcases hmj with w | w
      · exact Or.inl ⟨j, hj, hqj, w⟩
      · exact Or.inr w
    · exact Or.inl ⟨j, hj, hqj, by simpa [rowTo, tkM, va_up, z] using hmj⟩
  · rintro (⟨j, hj, hqj, hmj⟩ | w)
    · by_cases z : j = i
      · subst z
        refine ⟨j, hj, hqj, ?_⟩
        have e1 : tkM (rowTo M j (tkM M j ++ [p])) j = tkM M j ++ [p] := by simp [rowTo, tkM, va_up]
        rw [e1, List.length_append, List.length_singleton, take_succ_mem hm]
        exact Or.inl hmj
      · exact ⟨j, hj, hqj, by simpa [rowTo, tkM, va_up, z] using hmj⟩
    · refine ⟨i, hi, hq, ?_⟩
      have e1 : tkM (rowTo M i (tkM M i ++ [p])) i = tkM M i ++ [p] := by simp [rowTo, tkM, va_up]
      rw [e1, List.length_append, List.length_singleton, take_succ_mem hm]
      exact Or.inr w
/-- keys of those in the line of p differ from item i's, where p is new to i's row -/
theorem join_key (hS : Sh tt mi mr dk od ia ls it ma io ms) (hV : Vl mi od it ms M) (hM : MI M) {i m : Nat} (hi : i < 200) (hq : qdM M i = true) (p : Int32) (hp : p ∉ tkM M i) (hm : (ms i)[(tkM M i).length]? = some m) {mrB mr2 : jR} {mi2 : jI} (hF : FrL tt (rowI mi m (it i) p ((tkM M i).length + 1)) mrB mi2 mr2) :
    ∀ x, plM M ms x → mi2 x 1 = mi2 m 1 → mi2 (io x) 4 ≠ mi2 (io m) 4 := by
  obtain ⟨-, ta, -, -, -, hrow, hnd, hmem⟩ := hS.2 i hi
  have hmi : m ∈ ms i := List.mem_of_getElem? hm
  obtain ⟨tm, hm0, eim⟩ := hmem m hmi
  have hma : m ≠ it i := kne tm ta (by simp)
  rintro x ⟨j, hj, hqj, hmj⟩ e
  have hxj := List.mem_of_mem_take hmj
  obtain ⟨tx, -, eix⟩ := (hS.2 j hj).2.2.2.2.2.2.2 x hxj
  have tj := (hS.2 j hj).2.1
  have hxm : x ≠ m := fun w => by
    have := hS.dis hj hi hxj (w ▸ hmi)
    subst this
    exact not_mem_take hnd hm (w ▸ hmj)
  rw [(hF.2 x tx).1, (hF.2 m tm).1] at e
  have e1 : rowI mi m (it i) p ((tkM M i).length + 1) m 1 = p := by simp [rowI, up2_ap, hma]
  have e2 : rowI mi m (it i) p ((tkM M i).length + 1) x 1 = mi x 1 := by simp [rowI, up2_ap, hxm]
  rw [e1, e2] at e
  have e3 : ∀ j, j < 200 → rowI mi m (it i) p ((tkM M i).length + 1) (it j) 4 = mi (it j) 4 := fun j hj => by simp [rowI, up2_ap]
  have hji : j ≠ i := fun w => by
    subst w
    apply hp
    rw [← (hV.2 j hj).2.2.2.2, ← e]
    exact List.mem_map.mpr ⟨x, hmj, rfl⟩
  rw [eix, eim, (hF.1 _ _ tj rfl).1, (hF.1 _ _ ta rfl).1, e3 j hj, e3 i hi, (hV.2 j hj).2.2.1, (hV.2 i hi).2.2.1]
  exact fun w => hji (hM.2.2 j i hj hi hqj hq w)
theorem fgt_list {A B R : List Nat} {m j : Nat} : fgt (A ++ m :: B ++ R) A.length (A.length + B.length) m j = (A ++ B ++ m :: R)[j]? := by
  unfold fgt
  by_cases h1 : j < A.length
  · rw [if_pos h1, List.append_assoc, List.append_assoc, List.getElem?_append_left h1, List.getElem?_append_left h1]
  · rw [if_neg h1]
    by_cases h2 : j < A.length + B.length
    · have l : (A ++ m :: B ++ R)[j + 1]? = B[j - A.length]? := by
        rw [List.append_assoc, List.getElem?_append_right (by omega), show j + 1 - A.length = (j - A.length) + 1 by omega, List.cons_append, List.getElem?_cons_succ, List.getElem?_append_left (by omega)]
      have r : (A ++ B ++ m :: R)[j]? = B[j - A.length]? := by
        rw [List.append_assoc, List.getElem?_append_right (by omega), List.getElem?_append_left (by omega)]
      rw [if_pos h2, l, r]
    · rw [if_neg h2]
      by_cases h3 : j = A.length + B.length
      · rw [if_pos h3, List.getElem?_append_right (by rw [List.length_append]; omega), List.length_append, show j - (A.length + B.length) = 0 by omega]
        rfl
      · rw [if_neg h3, List.getElem?_append_right (by rw [List.length_append, List.length_cons]; omega), List.getElem?_append_right (by rw [List.length_append]; omega), List.length_append, List.length_append, List.length_cons, show j - (A.length + B.length) = (j - (A.length + (B.length + 1))) + 1 by omega, List.getElem?_cons_succ]
/-- a queued item's member m of the row is out of its line and goes behind the row -/
theorem row_rem (hS : Sh tt mi mr dk od ia ls it ma io ms) (hV : Vl mi od it ms M) (hO : Od mi mr od it OA M) (hM : MI M) {i m : Nat} (hi : i < 200) {A B R : List Nat} (e1 : (ms i).take (tkM M i).length = A ++ m :: B) (e2 : ms i = A ++ m :: B ++ R) {mi2 : jI} {mr2 : jR} (hF : FrL tt mi mr mi2 mr2) (hL : LInv tt mi2 mr2 ls ch io (fun x => plM M ms x ∧ x ≠ m) (fun _ => False) Cs F LM) {mr3 : jR} (h3 : ∀ b, b ≠ ma i → mr3 b = mr2 b) (h4 : ∀ j, j < 8 → mr3 (ma i) j = fgt (ms i) A.length (A.length + B.length) m j) :
    Dk tt (up2 mi2 (it i) 2 (nI (A.length + B.length))) mr3 dk od ia ls ch it ma io (rowTo M i ((tkM M i).erase (mi m 1))) ∧ FrM tt mi mr (up2 mi2 (it i) 2 (nI (A.length + B.length))) mr3 := by
  obtain ⟨g1, g2, g3⟩ := keepL hS hV hO hF
  obtain ⟨-, ta, -, hma0, tma, hrow, hnd, hmem⟩ := g1.2 i hi
  have tod := hS.1.2.2.1
  have hmi : m ∈ ms i := by rw [e2]; simp
  have tm := (hmem m hmi).1
  have epos : mi2 m 1 = mi m 1 := by rw [(hF.2 m tm).1]
  obtain ⟨v1, v2, v3, v4, v5⟩ := g2.2 i hi
  rw [e1, List.map_append, List.map_cons] at v5
  have herase : (tkM M i).erase (mi m 1) = (A ++ B).map (fun x => mi2 x 1) := by
    have hn := (hM.1 i hi).1
    rw [← v5] at hn ⊢
    rw [← epos, List.erase_append_right _ (fun w => (List.nodup_append.mp hn).2.2 _ w _ List.mem_cons_self rfl), List.erase_cons_head, List.map_append]
  have hlen8 : (A ++ m :: B ++ R).length = 8 := by rw [← e2]; exact hrow.1
  have hlen8' : (A ++ B ++ m :: R).length = 8 := by simp at hlen8 ⊢; omega
  have hperm : (A ++ B ++ m :: R).Perm (ms i) := by
    rw [e2]
    have h1 : (A ++ B ++ m :: R).Perm (m :: (A ++ B ++ R)) := List.perm_middle
    have h2 : (A ++ m :: B ++ R).Perm (m :: (A ++ B ++ R)) := by
      rw [List.append_assoc, List.cons_append, List.append_assoc]
      exact List.perm_middle
    exact h1.trans h2.symm
  have hmsj : ∀ j, j ≠ i → va_up ms i (A ++ B ++ m :: R) j = ms j := fun j hj => va_up_ne _ _ hj
  have hmsi : va_up ms i (A ++ B ++ m :: R) i = A ++ B ++ m :: R := va_up_self _ _ _
  have hmem' : ∀ j x, x ∈ va_up ms i (A ++ B ++ m :: R) j ↔ x ∈ ms j := fun j x => by
    by_cases z : j = i
    · subst z; rw [hmsi]; exact hperm.mem_iff
    · rw [hmsj j z]
  generalize hI : up2 mi2 (it i) 2 (nI (A.length + B.length)) = mi3
  have I1 : ∀ b, b ≠ it i → mi3 b = mi2 b := fun b hb => by rw [← hI, up2_off _ _ _ _ hb]
  have I2 : ∀ y, y ≠ 2 → mi3 (it i) y = mi2 (it i) y := fun y hy => by rw [← hI]; simp [up2_ap, hy]
  have I3 : mi3 (it i) 2 = nI (A.length + B.length) := by rw [← hI]; simp [up2_ap]
  have hit : ∀ j, j < 200 → ∀ y, y ≠ 2 → mi3 (it j) y = mi2 (it j) y := fun j hj y hy => by
    by_cases z : it j = it i
    · rw [z]; exact I2 y hy
    · rw [I1 _ z]
  have hnma : ∀ b q, tt b = some q → q ≠ .inr (1, 8) → mr3 b = mr2 b := fun b q hb hq => h3 b (kne hb tma hq)
  have hmaj : ∀ j, j < 200 → j ≠ i → ma j ≠ ma i := fun j hj z w => by
    obtain ⟨-, -, -, -, -, hrj, -, hmj⟩ := g1.2 j hj
    obtain ⟨x, hx⟩ := getE (ms := ms j) (k := 0) (by rw [hrj.1]; omega)
    have h5 := (hrj.2 0 (by omega)).trans hx
    rw [w, hrow.2 0 (by omega)] at h5
    exact z (g1.dis hj hi (List.mem_of_getElem? hx) (List.mem_of_getElem? h5))
  have etk : ∀ j, j ≠ i → tkM (rowTo M i ((tkM M i).erase (mi m 1))) j = tkM M j := fun j z => by simp [rowTo, tkM, va_up, z]
  have etki : tkM (rowTo M i ((tkM M i).erase (mi m 1))) i = (A ++ B).map (fun x => mi2 x 1) := by rw [← herase]; simp [rowTo, tkM, va_up]
  refine ⟨⟨va_up ms i (A ++ B ++ m :: R), OA, Cs, F, LM, ⟨⟨g1.1.1, ?_, g1.1.2.2.1, ?_, ?_, g1.1.2.2.2.2.2⟩, fun j hj => ?_⟩, ⟨?_, fun j hj => ?_⟩, ⟨g3.1.congr ?_ (fun x hx => ?_), ?_, g3.2.2.1.congr (fun x hx => ?_), g3.2.2.2⟩, ?_⟩, ?_⟩
  · rw [hnma dk _ hS.1.1 (by simp)]; exact g1.1.2.1
  · rw [hnma od _ tod (by simp)]; exact g1.1.2.2.2.1
  · rw [hnma od _ tod (by simp)]; exact g1.1.2.2.2.2.1
  · obtain ⟨b1, b2, b3, b4, b5, b6, b7, b8⟩ := g1.2 j hj
    refine ⟨by rw [hnma ia _ hS.1.2.2.2.2.2 (by simp)]; exact b1, b2, (hit j hj 0 (by decide)).trans b3, by rw [hnma _ _ b2 (by simp)]; exact b4, b5, ?_, ?_, fun x hx => ?_⟩
    · by_cases z : j = i
      · subst z
        rw [hmsi]
        refine ⟨hlen8', fun k hk => ?_⟩
        rw [h4 k hk, e2]
        exact fgt_list
      · rw [hmsj j z]
        exact ⟨b6.1, fun k hk => by rw [h3 _ (hmaj j hj z)]; exact b6.2 k hk⟩
    · by_cases z : j = i
      · subst z; rw [hmsi]; exact hperm.nodup_iff.mpr b7
      · rw [hmsj j z]; exact b7
    · obtain ⟨c1, c2, c3⟩ := b8 x ((hmem' j x).mp hx)
      exact ⟨c1, by rw [hnma x _ c1 (by simp)]; exact c2, c3⟩
  · rw [I1 od (kne tod ta (by simp))]; exact g2.1
  · obtain ⟨w1, w2, w3, w4, w5⟩ := g2.2 j hj
    refine ⟨(hit j hj 5 (by decide)).trans w1, (hit j hj 3 (by decide)).trans w2, (hit j hj 4 (by decide)).trans w3, ?_, ?_⟩
    · by_cases z : j = i
      · subst z
        rw [I3, etki]
        simp
      · rw [I1 _ (fun w => z (hS.inj hj hi w)), etk j z]; exact w4
    · by_cases z : j = i
      · subst z
        rw [etki, hmsi, List.length_map, List.take_left']
        · refine List.map_congr_left (fun x hx => ?_)
          have hxm : x ∈ ms j := by rw [e2]; simp at hx ⊢; rcases hx with w | w <;> simp [w]
          rw [I1 x (kne (hmem x hxm).1 ta (by simp))]
        · rfl
      · rw [etk j z, hmsj j z]
        refine Eq.trans (List.map_congr_left (fun x hx => ?_)) w5
        rw [I1 x (kne ((g1.2 j hj).2.2.2.2.2.2.2 x (List.mem_of_mem_take hx)).1 ta (by simp))]
  · rw [hnma od _ tod (by simp)]; exact ⟨rfl, rfl⟩
  · rw [hnma x _ (hO.a hS hx) (by simp)]; exact ⟨rfl, rfl⟩
  · rw [I1 od (kne tod ta (by simp))]; exact g3.2.1
  · show mi3 x 3 = mi2 x 3 ∧ mi3 x 4 = mi2 x 4
    obtain ⟨j, hj, ej, -⟩ := (hO.2.2.2 x).mp hx
    rw [ej]
    exact ⟨hit j hj 3 (by decide), hit j hj 4 (by decide)⟩
  · refine hL.congr (fun a ha hp => ⟨I1 a (fun z => ?_), h3 a (fun z => ?_)⟩) (fun x hx => ?_) (fun x => ?_) (fun _ z => z)
    · rw [z, ta] at ha
      rcases ha with h | h | h | h <;> cases h
    · rw [z, tma] at ha
      rcases ha with h | h | h | h <;> cases h
    · obtain ⟨j, hj, hqj, hmj⟩ := hx.1
      rw [((g1.2 j hj).2.2.2.2.2.2.2 x (List.mem_of_mem_take hmj)).2.2]
      exact ⟨hit j hj 3 (by decide), hit j hj 4 (by decide)⟩
    · have hABi : ∀ x, x ∈ A ++ B ↔ x ∈ A ++ m :: B ∧ x ≠ m := fun x => by
        have hn2 : (A ++ m :: B).Nodup := by rw [← e1]; exact hnd.sublist (List.take_sublist _ _)
        constructor
        · intro hx
          refine ⟨by simp at hx ⊢; rcases hx with w | w <;> simp [w], fun z => ?_⟩
          subst z
          rcases List.mem_append.mp hx with w | w
          · exact (List.nodup_append.mp hn2).2.2 _ w _ List.mem_cons_self rfl
          · exact (List.nodup_cons.mp (List.nodup_append.mp hn2).2.1).1 w
        · rintro ⟨hx, z⟩
          simp at hx ⊢
          rcases hx with w | w | w
          · exact Or.inl w
          · exact absurd w z
          · exact Or.inr w
      have htake : (va_up ms i (A ++ B ++ m :: R) i).take (tkM (rowTo M i ((tkM M i).erase (mi m 1))) i).length = A ++ B := by
        rw [etki, hmsi, List.length_map, List.take_left']
        rfl
      constructor
      · rintro ⟨j, hj, hqj, hmj⟩
        by_cases z : j = i
        · subst z
          rw [htake, hABi x, ← e1] at hmj
          exact ⟨⟨j, hj, hqj, hmj.1⟩, hmj.2⟩
        · rw [etk j z, hmsj j z] at hmj
          exact ⟨⟨j, hj, hqj, hmj⟩, fun w => z (g1.dis hj hi (List.mem_of_mem_take hmj) (w ▸ hmi))⟩
      · rintro ⟨⟨j, hj, hqj, hmj⟩, w⟩
        refine ⟨j, hj, hqj, ?_⟩
        by_cases z : j = i
        · subst z
          rw [htake, hABi x, ← e1]
          exact ⟨hmj, w⟩
        · rw [etk j z, hmsj j z]; exact hmj
  · intro a q ha hq
    have h5 := hF.M a q ha hq
    refine ⟨(I1 a (fun z => ?_)).trans h5.1, (h3 a (fun z => ?_)).trans h5.2⟩
    · rw [z, ta] at ha; cases ha; simp [mK] at hq
    · rw [z, tma] at ha; cases ha; simp [mK] at hq
end ROW
end
section
/-! Orders.join, Orders.part over the desk -/
def moreB (M : Mt) (i : Nat) (p : Int32) : Bool := !decide ((tkM M i).length = 8) && !decide (p ∈ tkM M i)

set_option maxHeartbeats 4000000 in
set_option maxRecDepth 100000 in
/-- Orders.join -/
theorem c_Orders_join (l : Launch) (D : jD) (N0 : Nat) {tt : jT} {mi : jI} {mr : jR} {dk od ia ls ch : Nat} {it ma io : Nat → Nat} {M : Mt} {ms : Nat → List Nat} {OA : List Nat} {Cs0 : Nat → List Nat} {F0 : List Nat} {LM0 : Nat → List Nat} (hS : Sh tt mi mr dk od ia ls it ma io ms) (hV : Vl mi od it ms M) (hO : Od mi mr od it OA M) (hL0 : LInv tt mi mr ls ch io (plM M ms) (fun _ => False) Cs0 F0 LM0) (hM : MI M) {i : Nat} (hi : i < 200) (hq : qdM M i = true) (p : Int32) : Ct l D N0 3 0 0 y_Orders_join b_Orders_join 3 (some .boolean) [va_rf (some od), va_rf (some (it i)), .int p] tt mi mr (fun v tt' mi' mr' => tt' = tt ∧ FrM tt mi mr mi' mr' ∧ ((moreB M i p = false ∧ v = some (.int 0) ∧ Dk tt mi' mr' dk od ia ls ch it ma io M) ∨ (moreB M i p = true ∧ v = some (.int 1) ∧ Dk tt mi' mr' dk od ia ls ch it ma io (rowTo M i (tkM M i ++ [p]))))) := by
  refine Ct.of "OrderDesk$Orders" (by decide +kernel) rfl (by simp [cat_rf, cat_int]) (Nat.le_of_ble_eq_true rfl) (fun X hXl hXd hXn C E I hWT => ?_)
  subst hXl hXd hXn
  have tod := hS.1.2.2.1
  obtain ⟨hia, ta, hnum, hma, tma, hrow, hnd, hmem⟩ := hS.2 i hi
  have hcnt : (tkM M i).length ≤ 8 := (hM.1 i hi).2.1
  obtain ⟨v1, v2, v3, v4, v5⟩ := hV.2 i hi
  refine j_aload_n C d_Orders_join_0 rfl ?_
  refine j_iload_n C d_Orders_join_1 rfl ?_
  refine j_callV C [.int p] d_Orders_join_2 ml_Orders_98 mv_Item_take k_Item_take ⟨_, _, rfl⟩ ta (c_Item_take _ _ _ ta v4 hcnt hma hrow p) (by decide) (by decide) rfl (Nat.le_of_ble_eq_true rfl) (Nat.le_of_ble_eq_true rfl) rfl (by simp [cat_rf, cat_int]) (fun v2 tt2 mi2 mr2 p2 => ?_)
  obtain ⟨rfl, rfl, hcase⟩ := p2
  rcases hcase with ⟨rfl, rfl, hc⟩ | ⟨rfl, hlt, hnone, m, hm, rfl⟩
  · change J X _ _ _ 0 0 5 _ [.int 0]
    refine j_if_ne (tgt := 10) C d_Orders_join_5 (by decide) (fun c5 => ?_) (fun c5 => ?_)
    · skip
      exact absurd rfl c5
    · skip
      refine j_iconst (v := 0) C d_Orders_join_8 (by decide) ?_
      refine j_iret C E rfl (by first | rfl | exact nar_bI _) d_Orders_join_9 ?_
      refine ⟨rfl, FrM.refl, Or.inl ⟨?_, rfl, ms, OA, Cs0, F0, LM0, hS, hV, hO, hL0⟩⟩
      rcases hc with hc | hc
      · simp [moreB, hc]
      · have : p ∈ tkM M i := Classical.byContradiction (fun z => hc ((find_row v5 p).mpr z))
        simp [moreB, this]
  · change J X _ _ _ 0 0 5 _ [.int 1]
    have hmi : m ∈ ms i := List.mem_of_getElem? hm
    obtain ⟨tm, hm0, eim⟩ := hmem m hmi
    have hma2 : m ≠ it i := kne tm ta (by simp)
    have hpn : p ∉ tkM M i := (find_row v5 p).mp hnone
    obtain ⟨s1, s2, s3, s4, hnp, hFm⟩ := row_add hS hV hO hL0 hi p hm
    have hroom := s4.room (AM := (List.range 200).flatMap ms) (fun x hx => hx.AM) (Nat.le_of_eq hS.len) (mem_AM hi hmi) hnp
    unfold rowI at s4
    refine j_if_ne (tgt := 10) C d_Orders_join_5 (by decide) (fun c5 => ?_) (fun c5 => ?_)
    · skip
      refine j_aload_n C d_Orders_join_10 rfl ?_
      refine j_gets C d_Orders_join_11 fl_Orders_24 cl_Orders rfl (by assumption) rfl hS.1.2.2.2.2.1 (fun t11 => ?_)
      refine j_iload_n C d_Orders_join_14 rfl ?_
      refine j_callV C [.int p] d_Orders_join_15 ml_Orders_75 mv_Lines_need k_Lines_need ⟨_, _, rfl⟩ (by assumption) (c_needL _ _ _ s4 p hroom) (by decide) (by decide) rfl (Nat.le_of_ble_eq_true rfl) (Nat.le_of_ble_eq_true rfl) rfl (by simp [cat_rf, cat_int]) (fun v15 tt15 mi15 mr15 p15 => ?_)
      obtain ⟨rfl, hF1, q, Cs1, F1, rfl, hL1, hqU, hqp⟩ := p15
      change J X _ mi15 mr15 0 0 18 _ [va_rf (some q)]
      refine j_aload_n C d_Orders_join_18 rfl ?_
      refine j_gets (b := (ma i)) C d_Orders_join_19 fl_Orders_66 cl_Item rfl (by assumption) rfl (by rw [(hF1.1 _ _ ta rfl).2]; exact hma) (fun t19 => ?_)
      refine j_aload_n C d_Orders_join_22 rfl ?_
      refine j_geti C d_Orders_join_23 fl_Orders_63 cl_Item (by assumption) rfl ?_
      refine j_iconst (v := 1) C d_Orders_join_26 (by decide) ?_
      refine j_isub C d_Orders_join_27 ?_
      refine j_aalds (b := m) C (tkM M i).length d_Orders_join_28 (by assumption) (by decide) (by rw [(hF1.1 _ _ ta rfl).1]; simp only [up2_ap]; exact nI_pred _) (by omega) (by decide) (by rw [(hF1.1 _ _ tma rfl).2]; exact (hrow.2 _ (by omega)).trans hm) (fun t28 => ?_)
      refine j_callV C [va_rf (some m)] d_Orders_join_29 ml_Orders_79 mv_Line_insert k_Line_insert ⟨_, _, rfl⟩ (hL1.2.2.2.2.2.2.1 q (List.mem_append_right _ hqU)).1 (c_insertL _ _ _ hL1 hqU (by rw [hqp, (hF1.2 m tm).1]; simp [up2_ap, hma2]) hnp tm (by rw [(hF1.2 m tm).2, hm0, eim]) (by rw [eim]; exact ta) (join_key hS hV hM hi hq p hpn hm hF1)) (by decide) (by decide) rfl (Nat.le_of_ble_eq_true rfl) (Nat.le_of_ble_eq_true rfl) rfl (by simp [cat_rf, cat_int]) (fun v29 tt29 mi29 mr29 p29 => ?_)
      obtain ⟨rfl, rfl, hF2, LM2, hL2⟩ := p29
      change J X _ mi29 mr29 0 0 32 _ []
      refine j_iconst (v := 1) C d_Orders_join_32 (by decide) ?_
      refine j_iret C E rfl (by first | rfl | exact nar_bI _) d_Orders_join_33 ?_
      obtain ⟨d1, d2⟩ := row_in hS hV hO hL0 hi hq p hm (hF1.trans hF2) hL2
      exact ⟨rfl, d2, Or.inr ⟨by simp [moreB, hpn]; omega, rfl, d1⟩⟩
    · skip
      exact absurd c5 (by decide)

set_option maxHeartbeats 4000000 in
set_option maxRecDepth 100000 in
/-- Orders.part -/
theorem c_Orders_part (l : Launch) (D : jD) (N0 : Nat) {tt : jT} {mi : jI} {mr : jR} {dk od ia ls ch : Nat} {it ma io : Nat → Nat} {M : Mt} {ms : Nat → List Nat} {OA : List Nat} {Cs0 : Nat → List Nat} {F0 : List Nat} {LM0 : Nat → List Nat} (hS : Sh tt mi mr dk od ia ls it ma io ms) (hV : Vl mi od it ms M) (hO : Od mi mr od it OA M) (hL0 : LInv tt mi mr ls ch io (plM M ms) (fun _ => False) Cs0 F0 LM0) (hM : MI M) {i m : Nat} (hi : i < 200) (hq : qdM M i = true) {A B : List Nat} (e1 : (ms i).take (tkM M i).length = A ++ m :: B) : Ct l D N0 2 0 0 y_Orders_part b_Orders_part 4 none [va_rf (some od), va_rf (some (it i)), va_rf (some m)] tt mi mr (fun v tt' mi' mr' => v = none ∧ tt' = tt ∧ FrM tt mi mr mi' mr' ∧ Dk tt mi' mr' dk od ia ls ch it ma io (rowTo M i ((tkM M i).erase (mi m 1)))) := by
  refine Ct.of "OrderDesk$Orders" (by decide +kernel) rfl (by simp [cat_rf, cat_int]) (Nat.le_of_ble_eq_true rfl) (fun X hXl hXd hXn C E I hWT => ?_)
  subst hXl hXd hXn
  have tod := hS.1.2.2.1
  obtain ⟨hia, ta, hnum, hma, tma, hrow, hnd, hmem⟩ := hS.2 i hi
  have hcnt : (tkM M i).length ≤ 8 := (hM.1 i hi).2.1
  obtain ⟨v1, v2, v3, v4, v5⟩ := hV.2 i hi
  have e2 : ms i = A ++ m :: B ++ (ms i).drop (tkM M i).length := by rw [← e1]; exact (List.take_append_drop _ _).symm
  have hmi : m ∈ ms i := by rw [e2]; simp
  obtain ⟨tm, hm0, eim⟩ := hmem m hmi
  have hlen : (tkM M i).length = A.length + B.length + 1 := by
    have h1 := congrArg List.length e1
    rw [List.length_take, hrow.1] at h1
    simp at h1
    omega
  have hk0 : (ms i)[A.length]? = some m := by rw [e2]; simp
  have hpm : plM M ms m := ⟨i, hi, hq, by rw [e1]; simp⟩
  obtain ⟨q, A1, B1, hqU, hmq, hqp, hLq, tq⟩ := hL0.lineOf hpm
  have hnd2 : ∀ k, k < 8 → (ms i)[k]? = some m → k = A.length := fun k hk h1 => by
    have hl1 := (List.getElem?_eq_some_iff.mp h1).1
    have hl2 := (List.getElem?_eq_some_iff.mp hk0).1
    exact (List.getElem_inj (i := k) (j := A.length) (h₀ := hl1) (h₁ := hl2) hnd).mp ((List.getElem?_eq_some_iff.mp h1).2.trans (List.getElem?_eq_some_iff.mp hk0).2.symm)
  have tail : ∀ (mi2 : jI) (mr2 : jR) (Cs : Nat → List Nat) (F : List Nat) (LM : Nat → List Nat) (x3 : Option Value), FrL tt mi mr mi2 mr2 → LInv tt mi2 mr2 ls ch io (fun x => plM M ms x ∧ x ≠ m) (fun _ => False) Cs F LM → J X tt mi2 mr2 0 0 25 [some (va_rf (some od)), some (va_rf (some (it i))), some (va_rf (some m)), x3] [] := by
    intro mi2 mr2 Cs F LM x3 hF hL
    obtain ⟨g1, g2, g3⟩ := keepL hS hV hO hF
    have hw := g1.2 i hi
    refine j_aload_n C d_Orders_part_25 rfl ?_
    refine j_aload_n C d_Orders_part_26 rfl ?_
    refine j_callV C [va_rf (some m)] d_Orders_part_27 ml_Orders_101 mv_Item_forget k_Item_forget ⟨_, _, rfl⟩ ta (c_Item_forget _ _ _ ta tm (g2.2 i hi).2.2.2.1 hlen hcnt hw.2.2.2.1 hw.2.2.2.2.2.1 hk0 (by omega) hnd2) (by decide) (by decide) rfl (Nat.le_of_ble_eq_true rfl) (Nat.le_of_ble_eq_true rfl) rfl (by simp [cat_rf, cat_int]) (fun v27 tt27 mi27 mr27 p27 => ?_)
    obtain ⟨rfl, rfl, rfl, h3, h4⟩ := p27
    change J X _ _ mr27 0 0 30 _ []
    refine j_vret C E d_Orders_part_30 ?_
    obtain ⟨d1, d2⟩ := row_rem hS hV hO hM hi e1 e2 hF hL h3 h4
    exact ⟨rfl, rfl, d2, d1⟩
  refine j_aload_n C d_Orders_part_0 rfl ?_
  refine j_gets C d_Orders_part_1 fl_Orders_86 cl_Member rfl (by assumption) rfl hmq (fun t1 => ?_)
  refine j_astore_n C d_Orders_part_4 (Nat.le_of_ble_eq_true rfl) ?_
  refine j_aload_n C d_Orders_part_5 rfl ?_
  refine j_aload_n C d_Orders_part_6 rfl ?_
  refine j_callV C [va_rf (some m)] d_Orders_part_7 ml_Orders_90 mv_Line_remove k_Line_remove ⟨_, _, rfl⟩ tq (c_removeL _ _ _ hL0 hqU hLq) (by decide) (by decide) rfl (Nat.le_of_ble_eq_true rfl) (Nat.le_of_ble_eq_true rfl) rfl (by simp [cat_rf, cat_int]) (fun v7 tt7 mi7 mr7 p7 => ?_)
  obtain ⟨rfl, rfl, hF1, LM1, hL1, hLq1⟩ := p7
  change J X _ mi7 mr7 0 0 10 _ []
  refine j_aload_n C d_Orders_part_10 rfl ?_
  refine j_geti C d_Orders_part_11 fl_Orders_93 cl_Line tq rfl ?_
  refine j_if_ne (tgt := 25) C d_Orders_part_14 (by decide) (fun c14 => ?_) (fun c14 => ?_)
  · skip
    have hne : LM1 q ≠ [] := fun z => c14 (by rw [(hL1.2.2.2.2.2.2.1 q (List.mem_append_right _ hqU)).2.2, z]; rfl)
    exact tail mi7 mr7 Cs0 F0 LM1 _ hF1 (hL1.full hne)
  · skip
    have hnil : LM1 q = [] := by
      have hlen := LInv.few (M := M) hS hL1 (fun x hx => hx.1) hqU
      have hz2 : mi7 q 1 = 0 := by simpa using c14
      rw [(hL1.2.2.2.2.2.2.1 q (List.mem_append_right _ hqU)).2.2, show (0 : Int32) = nI 0 from rfl, nI_eq (by omega) (by omega)] at hz2
      exact List.length_eq_zero_iff.mp hz2
    refine j_aload_n C d_Orders_part_17 rfl ?_
    refine j_gets (b := ls) C d_Orders_part_18 fl_Orders_24 cl_Orders rfl (by assumption) rfl (by rw [(hF1.1 _ _ tod rfl).2]; exact hS.1.2.2.2.2.1) (fun t18 => ?_)
    refine j_aload_n C d_Orders_part_21 rfl ?_
    refine j_callV C [va_rf (some q)] d_Orders_part_22 ml_Orders_94 mv_Lines_drop k_Lines_drop ⟨_, _, rfl⟩ (by assumption) (c_dropL _ _ _ hL1 hqU hnil) (by decide) (by decide) rfl (Nat.le_of_ble_eq_true rfl) (Nat.le_of_ble_eq_true rfl) rfl (by simp [cat_rf, cat_int]) (fun v22 tt22 mi22 mr22 p22 => ?_)
    obtain ⟨rfl, rfl, hF2, Cs2, F2, hL2⟩ := p22
    exact tail mi22 mr22 Cs2 F2 LM1 _ (hF1.trans hF2) hL2
end
section
/-! THE DESK'S METHODS THAT CHANGE IT -/
def ixN (x : Int32) : Nat := x.toNatClampNeg
def isQ (M : Mt) (x : Int32) : Bool := itemF x && qdM M (ixN x)
theorem MI.exit {M : Mt} (h : MI M) (i : Nat) : MI (exitM M i) := by
  refine ⟨h.1, fun j hj hq => ?_, fun j k hj hk hqj hqk e => ?_⟩
  · by_cases z : j = i
    · simp [exitM, qdM, va_up, z] at hq
    · exact h.2.1 j hj (by simpa [exitM, qdM, va_up, z] using hq)
  · by_cases z : j = i
    · simp [exitM, qdM, va_up, z] at hqj
    · by_cases w : k = i
      · simp [exitM, qdM, va_up, w] at hqk
      · exact h.2.2 j k hj hk (by simpa [exitM, qdM, va_up, z] using hqj) (by simpa [exitM, qdM, va_up, w] using hqk) e
theorem MI.come {M : Mt} (h : MI M) (hn : nM M < 2 ^ 30) (i : Nat) (p : Int32) : MI (comeM M i p) := by
  refine ⟨h.1, fun j hj hq => ?_, fun j k hj hk hqj hqk e => ?_⟩
  · by_cases z : j = i
    · exact ⟨nM M + 1, Nat.le_refl _, by simp [comeM, arM, va_up, z]⟩
    · obtain ⟨c, hc, ec⟩ := h.2.1 j hj (by simpa [comeM, qdM, va_up, z] using hq)
      exact ⟨c, Nat.le_succ_of_le hc, by simp [comeM, arM, va_up, z] at *; exact ec⟩
  · have new : ∀ j, j < 200 → j ≠ i → qdM (comeM M i p) j = true → arM (comeM M i p) j ≠ nI (nM M + 1) := fun j hj z hq => by
      obtain ⟨c, hc, ec⟩ := h.2.1 j hj (by simpa [comeM, qdM, va_up, z] using hq)
      have : arM (comeM M i p) j = arM M j := by simp [comeM, arM, va_up, z]
      rw [this, ec]
      intro w
      rw [nI_eq (by omega) (by omega)] at w
      omega
    have own : arM (comeM M i p) i = nI (nM M + 1) := by simp [comeM, arM, va_up]
    by_cases z : j = i
    · by_cases w : k = i
      · rw [z, w]
      · rw [z, own] at e
        exact absurd e.symm (new k hk w hqk)
    · by_cases w : k = i
      · rw [w, own] at e
        exact absurd e (new j hj z hqj)
      · refine h.2.2 j k hj hk (by simpa [comeM, qdM, va_up, z] using hqj) (by simpa [comeM, qdM, va_up, w] using hqk) ?_
        have e1 : arM (comeM M i p) j = arM M j := by simp [comeM, arM, va_up, z]
        have e2 : arM (comeM M i p) k = arM M k := by simp [comeM, arM, va_up, w]
        rw [← e1, ← e2]; exact e
theorem MI.row {M : Mt} (h : MI M) (i : Nat) {r : List Int32} (hr : r.Nodup ∧ r.length ≤ 8 ∧ ∀ p ∈ r, posF p = true) : MI (rowTo M i r) := by
  refine ⟨fun j hj => ?_, h.2.1, h.2.2⟩
  by_cases z : j = i
  · have : tkM (rowTo M i r) j = r := by simp [rowTo, tkM, va_up, z]
    rw [this]; exact hr
  · have : tkM (rowTo M i r) j = tkM M j := by simp [rowTo, tkM, va_up, z]
    rw [this]; exact h.1 j hj
theorem comeM_exit (M : Mt) (i : Nat) (p : Int32) : comeM (exitM M i) i p = comeM M i p := by
  unfold comeM exitM
  simp only [qdM, prM, arM, tkM, nM]
  congr 1
  exact bx_uu _ _ _ _
def moreM (M : Mt) (i : Nat) (p : Int32) : Mt := rowTo M i (tkM M i ++ [p])
def takeB (M : Mt) (x p : Int32) : Bool := itemF x && !qdM M (ixN x) && posF p && moreB M (ixN x) p
def takeM (M : Mt) (x p : Int32) : Mt := if takeB M x p = true then moreM M (ixN x) p else M
def comeB (M : Mt) (x p : Int32) : Bool := itemF x && !qdM M (ixN x) && prioF p
def againB (M : Mt) (x p : Int32) : Bool := isQ M x && prioF p
def arrN (M : Mt) (b : Bool) : Int32 := if b = true then nI (nM M + 1) else 0
def arrM (M : Mt) (b : Bool) (x p : Int32) : Mt := if b = true then comeM M (ixN x) p else M
def leaveM (M : Mt) (x : Int32) : Mt := if isQ M x = true then rowTo (exitM M (ixN x)) (ixN x) [] else M
def joinB (M : Mt) (x p : Int32) : Bool := isQ M x && posF p && moreB M (ixN x) p
def joinM (M : Mt) (x p : Int32) : Mt := if joinB M x p = true then moreM M (ixN x) p else M
def partB (M : Mt) (x p : Int32) : Bool := isQ M x && decide (p ∈ tkM M (ixN x))
def partM (M : Mt) (x p : Int32) : Mt := if partB M x p = true then rowTo M (ixN x) ((tkM M (ixN x)).erase p) else M
theorem MI.more {M : Mt} (h : MI M) {i : Nat} (hi : i < 200) {p : Int32} (hp : posF p = true) (hm : moreB M i p = true) : MI (moreM M i p) := by
  simp only [moreB, Bool.and_eq_true, Bool.not_eq_true', decide_eq_false_iff_not] at hm
  obtain ⟨h1, h2, h3⟩ := h.1 i hi
  refine h.row i ⟨?_, ?_, fun q hq => ?_⟩
  · rw [List.nodup_append]
    exact ⟨h1, by simp, fun a ha b hb e => hm.2 (by simp at hb; rw [← hb, ← e]; exact ha)⟩
  · rw [List.length_append, List.length_singleton]; omega
  · rcases List.mem_append.mp hq with z | z
    · exact h3 q z
    · simp at z; rw [z]; exact hp
theorem MI.take {M : Mt} (h : MI M) (x p : Int32) : MI (takeM M x p) := by
  unfold takeM
  split
  next hb =>
    simp only [takeB, Bool.and_eq_true] at hb
    exact h.more (itemF_spec hb.1.1.1).1 hb.1.2 hb.2
  next => exact h
theorem MI.join {M : Mt} (h : MI M) (x p : Int32) : MI (joinM M x p) := by
  unfold joinM
  split
  next hb =>
    simp only [joinB, isQ, Bool.and_eq_true] at hb
    exact h.more (itemF_spec hb.1.1.1).1 hb.1.2 hb.2
  next => exact h
theorem MI.arr {M : Mt} (h : MI M) (hn : nM M < 2 ^ 30) (b : Bool) (x p : Int32) : MI (arrM M b x p) := by
  unfold arrM
  split
  · exact h.come hn _ _
  · exact h
theorem MI.leave {M : Mt} (h : MI M) (x : Int32) : MI (leaveM M x) := by
  unfold leaveM
  split
  · exact (h.exit _).row _ ⟨List.nodup_nil, by simp, fun p hp => by simp at hp⟩
  · exact h
theorem MI.part {M : Mt} (h : MI M) (x p : Int32) : MI (partM M x p) := by
  unfold partM
  split
  next hb =>
    simp only [partB, isQ, Bool.and_eq_true] at hb
    obtain ⟨h1, h2, h3⟩ := h.1 _ (itemF_spec hb.1.1).1
    exact h.row _ ⟨h1.sublist List.erase_sublist, Nat.le_trans List.erase_sublist.length_le h2, fun q hq => h3 q (List.mem_of_mem_erase hq)⟩
  next => exact h
section DKL
variable {tt : jT} {mi : jI} {mr : jR} {dk od ia ls ch : Nat} {it ma io : Nat → Nat} {M : Mt}
theorem row_nil (h : Dk tt mi mr dk od ia ls ch it ma io M) {i : Nat} (hi : i < 200) (hq : qdM M i = false) : Dk tt (up2 mi (it i) 2 0) mr dk od ia ls ch it ma io (rowTo M i []) ∧ FrM tt mi mr (up2 mi (it i) 2 0) mr := by
  obtain ⟨ms, OA, Cs, F, LM, hS, hV, hO, hL⟩ := h
  have ta := (hS.2 i hi).2.1
  have tod := hS.1.2.2.1
  refine ⟨⟨ms, OA, Cs, F, LM, ?_, ⟨?_, fun j hj => ?_⟩, ⟨hO.1, ?_, hO.2.2.1.congr (fun x hx => ?_), hO.2.2.2⟩, ?_⟩, FrM.puti ta rfl⟩
  · exact hS.congr rfl ⟨rfl, rfl⟩ rfl (fun j hj => ⟨by rw [up2_ap, if_neg (by simp)], rfl, rfl⟩) (fun _ _ _ _ => rfl)
  · rw [up2_off _ _ _ _ (kne tod ta (by simp))]; exact hV.1
  · obtain ⟨v1, v2, v3, v4, v5⟩ := hV.2 j hj
    refine ⟨by rw [up2_ap, if_neg (by simp)]; exact v1, by rw [up2_ap, if_neg (by simp)]; exact v2, by rw [up2_ap, if_neg (by simp)]; exact v3, ?_, ?_⟩
    · by_cases z : j = i
      · subst z
        have : tkM (rowTo M j []) j = [] := by simp [rowTo, tkM, va_up]
        rw [this, up2_ap, if_pos ⟨rfl, rfl⟩]; rfl
      · have : tkM (rowTo M i []) j = tkM M j := by simp [rowTo, tkM, va_up, z]
        rw [this, up2_off _ _ _ _ (fun w => z (hS.inj hj hi w))]; exact v4
    · by_cases z : j = i
      · subst z
        have : tkM (rowTo M j []) j = [] := by simp [rowTo, tkM, va_up]
        rw [this]; simp
      · have : tkM (rowTo M i []) j = tkM M j := by simp [rowTo, tkM, va_up, z]
        rw [this]
        refine Eq.trans (List.map_congr_left (fun x hx => ?_)) v5
        rw [up2_off _ _ _ _ (kne ((hS.2 j hj).2.2.2.2.2.2.2 x (List.mem_of_mem_take hx)).1 ta (by simp))]
  · rw [up2_off _ _ _ _ (kne tod ta (by simp))]; exact hO.2.1
  · show up2 mi (it i) 2 0 x 3 = mi x 3 ∧ up2 mi (it i) 2 0 x 4 = mi x 4
    rw [up2_ap, if_neg (by simp), up2_ap, if_neg (by simp)]; exact ⟨rfl, rfl⟩
  · refine hL.congr (fun a ha hp => ⟨up2_off _ _ _ _ (fun z => ?_), rfl⟩) (fun x hx => ?_) (fun x => ?_) (fun _ z => z)
    · rw [z, ta] at ha
      rcases ha with h | h | h | h <;> cases h
    · rw [up2_ap, if_neg (by simp), up2_ap, if_neg (by simp)]; exact ⟨rfl, rfl⟩
    · constructor
      · rintro ⟨j, hj, hqj, hmj⟩
        have hqj : qdM M j = true := hqj
        have z : j ≠ i := fun z => by rw [z, hq] at hqj; cases hqj
        exact ⟨j, hj, hqj, by simpa [rowTo, tkM, va_up, z] using hmj⟩
      · rintro ⟨j, hj, hqj, hmj⟩
        have z : j ≠ i := fun z => by rw [z, hq] at hqj; cases hqj
        exact ⟨j, hj, hqj, by simpa [rowTo, tkM, va_up, z] using hmj⟩
def qD (M : Mt) (it : Nat → Nat) (x : Int32) : Option Nat := if isQ M x = true then some (it (ixN x)) else none
theorem qF_eq {ms : Nat → List Nat} (hV : Vl mi od it ms M) (x : Int32) : qF mi it x = qD M it x := by
  unfold qF qD isQ ixN
  by_cases hx : itemF x = true
  · rw [if_pos hx, (hV.2 _ (itemF_spec hx).1).1, hx, Bool.true_and]
    cases hq : qdM M x.toNatClampNeg <;> simp [bI]
  · rw [if_neg hx]
    simp [hx]
end DKL

set_option maxHeartbeats 4000000 in
set_option maxRecDepth 100000 in
/-- OrderDesk.take -/
theorem c_Desk_take (l : Launch) (D : jD) (N0 : Nat) {tt : jT} {mi : jI} {mr : jR} {dk od ia ls ch : Nat} {it ma io : Nat → Nat} {M : Mt} (h : Dk tt mi mr dk od ia ls ch it ma io M) (hM : MI M) (x p : Int32) : Ct l D N0 2 0 0 y_Desk_take b_Desk_take 3 (some .boolean) [va_rf (some dk), .int x, .int p] tt mi mr (fun v tt' mi' mr' => tt' = tt ∧ FrM tt mi mr mi' mr' ∧ v = some (.int (bI (takeB M x p))) ∧ Dk tt mi' mr' dk od ia ls ch it ma io (takeM M x p)) := by
  refine Ct.of "OrderDesk" (by decide +kernel) rfl (by simp [cat_rf, cat_int]) (Nat.le_of_ble_eq_true rfl) (fun X hXl hXd hXn C E I hWT => ?_)
  subst hXl hXd hXn
  obtain ⟨ms, OA, Cs0, F0, LM0, hS, hV, hO, hL0⟩ := id h
  have tdk := hS.1.1
  have hdk := hS.1.2.1
  have tod := hS.1.2.2.1
  have hoia := hS.1.2.2.2.1
  have hols := hS.1.2.2.2.2.1
  have tia := hS.1.2.2.2.2.2
  have hit : ∀ i, i < 200 → mr ia i = some (it i) := fun i hi => (hS.2 i hi).1
  have hqF := qF_eq hV x
  refine j_aload_n C d_Desk_take_0 rfl ?_
  refine j_gets C d_Desk_take_1 fl_Desk_14 cl_Desk rfl (by assumption) rfl hdk (fun t1 => ?_)
  refine j_iload_n C d_Desk_take_4 rfl ?_
  refine j_callVi C [.int x] d_Desk_take_5 ml_Desk_19 mv_Orders_isItem k_Orders_isItem ⟨_, _, rfl⟩ tod (c_Orders_isItem _ _ _ tod hoia x) (by decide) (by decide) rfl (Nat.le_of_ble_eq_true rfl) (Nat.le_of_ble_eq_true rfl) rfl (by simp [cat_rf, cat_int]) ?_
  refine j_if_eq (tgt := 49) C d_Desk_take_8 (by decide) (fun c8 => ?_) (fun c8 => ?_)
  · skip
    rw [bI_0] at c8
    refine j_iconst (v := 0) C d_Desk_take_49 (by decide) ?_
    refine j_iret C E rfl (by first | rfl | exact nar_bI _) d_Desk_take_50 ?_
    have hb : takeB M x p = false := by simp [takeB, c8]
    exact ⟨rfl, FrM.refl, by rw [hb]; rfl, by simp only [takeM, hb]; exact h⟩
  · skip
    rw [bI_0, Bool.not_eq_false] at c8
    have hI := c8
    refine j_aload_n C d_Desk_take_11 rfl ?_
    refine j_gets C d_Desk_take_12 fl_Desk_14 cl_Desk rfl (by assumption) rfl hdk (fun t12 => ?_)
    refine j_iload_n C d_Desk_take_15 rfl ?_
    refine j_callVr C [.int x] d_Desk_take_16 ml_Desk_23 mv_Orders_queued k_Orders_queued ⟨_, _, rfl⟩ tod (c_Orders_queued _ _ _ tod hoia hit x) (by decide) (by decide) rfl (Nat.le_of_ble_eq_true rfl) (Nat.le_of_ble_eq_true rfl) rfl (by simp [cat_rf, cat_int]) ?_
    rw [hqF]
    cases hQ : qdM M (ixN x) with
    | true =>
      rw [show qD M it x = some (it (ixN x)) by simp [qD, isQ, hQ, hI]]
      have hQ2 : itemF x = true ∧ qdM M (ixN x) = true := ⟨hI, hQ⟩
      refine j_ifnonnull_s (tgt := 49) C d_Desk_take_19 (by decide) ?_
      refine j_iconst (v := 0) C d_Desk_take_49 (by decide) ?_
      refine j_iret C E rfl (by first | rfl | exact nar_bI _) d_Desk_take_50 ?_
      have hb : takeB M x p = false := by simp [takeB, hQ2.2]
      exact ⟨rfl, FrM.refl, by rw [hb]; rfl, by simp only [takeM, hb]; exact h⟩
    | false =>
      rw [show qD M it x = none by simp [qD, isQ, hQ]]
      have hQ2 := hQ
      obtain ⟨hi, hix⟩ : ixN x < 200 ∧ x = nI (ixN x) := itemF_spec hI
      have hw := hS.2 (ixN x) hi
      refine j_ifnonnull_n (tgt := 49) C d_Desk_take_19 (by decide) ?_
      refine j_iload_n C d_Desk_take_22 rfl ?_
      refine j_callSi C [.int p] d_Desk_take_23 ml_Desk_27 ms_Desk_isPosition k_Desk_isPosition (c_Desk_isPosition _ _ _ p) (by decide) (by decide) rfl (Nat.le_of_ble_eq_true rfl) (Nat.le_of_ble_eq_true rfl) rfl (by simp [cat_rf, cat_int]) ?_
      refine j_if_eq (tgt := 49) C d_Desk_take_26 (by decide) (fun c26 => ?_) (fun c26 => ?_)
      · skip
        rw [bI_0] at c26
        refine j_iconst (v := 0) C d_Desk_take_49 (by decide) ?_
        refine j_iret C E rfl (by first | rfl | exact nar_bI _) d_Desk_take_50 ?_
        have hb : takeB M x p = false := by simp [takeB, c26]
        exact ⟨rfl, FrM.refl, by rw [hb]; rfl, by simp only [takeM, hb]; exact h⟩
      · skip
        rw [bI_0, Bool.not_eq_false] at c26
        refine j_aload_n C d_Desk_take_29 rfl ?_
        refine j_gets C d_Desk_take_30 fl_Desk_14 cl_Desk rfl (by assumption) rfl hdk (fun t30 => ?_)
        refine j_gets C d_Desk_take_33 fl_Desk_30 cl_Orders rfl (by assumption) rfl hoia (fun t33 => ?_)
        refine j_iload_n C d_Desk_take_36 rfl ?_
        refine j_aalds C (ixN x) d_Desk_take_37 (by assumption) (by decide) hix hi (by decide) (hit _ hi) (fun t37 => ?_)
        refine j_iload_n C d_Desk_take_38 rfl ?_
        refine j_callV C [.int p] d_Desk_take_39 ml_Desk_34 mv_Item_take k_Item_take ⟨_, _, rfl⟩ hw.2.1 (c_Item_take _ _ _ hw.2.1 (hV.2 _ hi).2.2.2.1 (hM.1 _ hi).2.1 hw.2.2.2.1 hw.2.2.2.2.2.1 p) (by decide) (by decide) rfl (Nat.le_of_ble_eq_true rfl) (Nat.le_of_ble_eq_true rfl) rfl (by simp [cat_rf, cat_int]) (fun v39 tt39 mi39 mr39 p39 => ?_)
        obtain ⟨rfl, rfl, hcase⟩ := p39
        have v5 := (hV.2 _ hi).2.2.2.2
        rcases hcase with ⟨rfl, rfl, hc⟩ | ⟨rfl, hlt, hnone, m, hm, rfl⟩
        · change J X _ _ _ 0 0 42 _ [.int 0]
          refine j_if_eq (tgt := 49) C d_Desk_take_42 (by decide) (fun c42 => ?_) (fun c42 => ?_)
          · skip
            refine j_iconst (v := 0) C d_Desk_take_49 (by decide) ?_
            refine j_iret C E rfl (by first | rfl | exact nar_bI _) d_Desk_take_50 ?_
            have hmo : moreB M (ixN x) p = false := by
              rcases hc with hc | hc
              · simp [moreB, hc]
              · have : p ∈ tkM M (ixN x) := Classical.byContradiction (fun z => hc ((find_row v5 p).mpr z))
                simp [moreB, this]
            have hb : takeB M x p = false := by simp [takeB, hmo]
            exact ⟨rfl, FrM.refl, by rw [hb]; rfl, by simp only [takeM, hb]; exact h⟩
          · skip
            exact absurd rfl c42
        · change J X _ _ _ 0 0 42 _ [.int 1]
          refine j_if_eq (tgt := 49) C d_Desk_take_42 (by decide) (fun c42 => ?_) (fun c42 => ?_)
          · skip
            exact absurd c42 (by decide)
          · skip
            refine j_iconst (v := 1) C d_Desk_take_45 (by decide) ?_
            refine j_goto (tgt := 50) C d_Desk_take_46 (by decide) ?_
            refine j_iret C E rfl (by first | rfl | exact nar_bI _) d_Desk_take_50 ?_
            have hpn : p ∉ tkM M (ixN x) := (find_row v5 p).mp hnone
            have hmo : moreB M (ixN x) p = true := by simp [moreB, hpn]; omega
            have hb : takeB M x p = true := by simp [takeB, hI, hQ2, c26, hmo]
            exact ⟨rfl, (row_add hS hV hO hL0 hi p hm).2.2.2.2.2, by rw [hb]; rfl, by rw [takeM, if_pos hb]; exact row_out hS hV hO hL0 hi hQ2 p hm⟩

set_option maxHeartbeats 4000000 in
set_option maxRecDepth 100000 in
/-- OrderDesk.come -/
theorem c_Desk_come (l : Launch) (D : jD) (N0 : Nat) {tt : jT} {mi : jI} {mr : jR} {dk od ia ls ch : Nat} {it ma io : Nat → Nat} {M : Mt} (h : Dk tt mi mr dk od ia ls ch it ma io M) (hM : MI M) (hn : nM M < 2 ^ 30) (x p : Int32) : Ct l D N0 4 0 0 y_Desk_come b_Desk_come 3 (some .int) [va_rf (some dk), .int x, .int p] tt mi mr (fun v tt' mi' mr' => tt' = tt ∧ FrM tt mi mr mi' mr' ∧ v = some (.int (arrN M (comeB M x p))) ∧ Dk tt mi' mr' dk od ia ls ch it ma io (arrM M (comeB M x p) x p)) := by
  refine Ct.of "OrderDesk" (by decide +kernel) rfl (by simp [cat_rf, cat_int]) (Nat.le_of_ble_eq_true rfl) (fun X hXl hXd hXn C E I hWT => ?_)
  subst hXl hXd hXn
  obtain ⟨ms, OA, Cs0, F0, LM0, hS, hV, hO, hL0⟩ := id h
  have tdk := hS.1.1
  have hdk := hS.1.2.1
  have tod := hS.1.2.2.1
  have hoia := hS.1.2.2.2.1
  have hols := hS.1.2.2.2.2.1
  have tia := hS.1.2.2.2.2.2
  have hit : ∀ i, i < 200 → mr ia i = some (it i) := fun i hi => (hS.2 i hi).1
  have hqF := qF_eq hV x
  refine j_aload_n C d_Desk_come_0 rfl ?_
  refine j_gets C d_Desk_come_1 fl_Desk_14 cl_Desk rfl (by assumption) rfl hdk (fun t1 => ?_)
  refine j_iload_n C d_Desk_come_4 rfl ?_
  refine j_callVi C [.int x] d_Desk_come_5 ml_Desk_19 mv_Orders_isItem k_Orders_isItem ⟨_, _, rfl⟩ tod (c_Orders_isItem _ _ _ tod hoia x) (by decide) (by decide) rfl (Nat.le_of_ble_eq_true rfl) (Nat.le_of_ble_eq_true rfl) rfl (by simp [cat_rf, cat_int]) ?_
  refine j_if_eq (tgt := 29) C d_Desk_come_8 (by decide) (fun c8 => ?_) (fun c8 => ?_)
  · skip
    rw [bI_0] at c8
    refine j_iconst (v := 0) C d_Desk_come_29 (by decide) ?_
    refine j_goto (tgt := 50) C d_Desk_come_30 (by decide) ?_
    refine j_iret C E rfl rfl d_Desk_come_50 ?_
    have hb : comeB M x p = false := by simp [comeB, c8]
    exact ⟨rfl, FrM.refl, by rw [hb]; rfl, by rw [hb]; exact h⟩
  · skip
    rw [bI_0, Bool.not_eq_false] at c8
    have hI := c8
    refine j_aload_n C d_Desk_come_11 rfl ?_
    refine j_gets C d_Desk_come_12 fl_Desk_14 cl_Desk rfl (by assumption) rfl hdk (fun t12 => ?_)
    refine j_iload_n C d_Desk_come_15 rfl ?_
    refine j_callVr C [.int x] d_Desk_come_16 ml_Desk_23 mv_Orders_queued k_Orders_queued ⟨_, _, rfl⟩ tod (c_Orders_queued _ _ _ tod hoia hit x) (by decide) (by decide) rfl (Nat.le_of_ble_eq_true rfl) (Nat.le_of_ble_eq_true rfl) rfl (by simp [cat_rf, cat_int]) ?_
    rw [hqF]
    cases hQ : qdM M (ixN x) with
    | true =>
      rw [show qD M it x = some (it (ixN x)) by simp [qD, isQ, hQ, hI]]
      refine j_ifnonnull_s (tgt := 29) C d_Desk_come_19 (by decide) ?_
      refine j_iconst (v := 0) C d_Desk_come_29 (by decide) ?_
      refine j_goto (tgt := 50) C d_Desk_come_30 (by decide) ?_
      refine j_iret C E rfl rfl d_Desk_come_50 ?_
      have hb : comeB M x p = false := by simp [comeB, hQ]
      exact ⟨rfl, FrM.refl, by rw [hb]; rfl, by rw [hb]; exact h⟩
    | false =>
      rw [show qD M it x = none by simp [qD, isQ, hQ]]
      obtain ⟨hi, hix⟩ : ixN x < 200 ∧ x = nI (ixN x) := itemF_spec hI
      have hw := hS.2 (ixN x) hi
      refine j_ifnonnull_n (tgt := 29) C d_Desk_come_19 (by decide) ?_
      refine j_iload_n C d_Desk_come_22 rfl ?_
      refine j_callSi C [.int p] d_Desk_come_23 ml_Desk_39 ms_Desk_isPriority k_Desk_isPriority (c_Desk_isPriority _ _ _ p) (by decide) (by decide) rfl (Nat.le_of_ble_eq_true rfl) (Nat.le_of_ble_eq_true rfl) rfl (by simp [cat_rf, cat_int]) ?_
      refine j_if_ne (tgt := 33) C d_Desk_come_26 (by decide) (fun c26 => ?_) (fun c26 => ?_)
      · skip
        rw [bI_0, Bool.not_eq_false] at c26
        refine j_aload_n C d_Desk_come_33 rfl ?_
        refine j_gets C d_Desk_come_34 fl_Desk_14 cl_Desk rfl (by assumption) rfl hdk (fun t34 => ?_)
        refine j_aload_n C d_Desk_come_37 rfl ?_
        refine j_gets C d_Desk_come_38 fl_Desk_14 cl_Desk rfl (by assumption) rfl hdk (fun t38 => ?_)
        refine j_gets C d_Desk_come_41 fl_Desk_30 cl_Orders rfl (by assumption) rfl hoia (fun t41 => ?_)
        refine j_iload_n C d_Desk_come_44 rfl ?_
        refine j_aalds C (ixN x) d_Desk_come_45 (by assumption) (by decide) hix hi (by decide) (hit _ hi) (fun t45 => ?_)
        refine j_iload_n C d_Desk_come_46 rfl ?_
        refine j_callV C [va_rf (some (it (ixN x))), .int p] d_Desk_come_47 ml_Desk_42 mv_Orders_enter k_Orders_enter ⟨_, _, rfl⟩ tod (c_Orders_enter _ _ _ h hM hn hi hQ p) (by decide) (by decide) rfl (Nat.le_of_ble_eq_true rfl) (Nat.le_of_ble_eq_true rfl) rfl (by simp [cat_rf, cat_int]) (fun v47 tt47 mi47 mr47 p47 => ?_)
        obtain ⟨rfl, hF1, rfl, hD⟩ := p47
        change J X _ mi47 mr47 0 0 50 _ [.int _]
        have hb : comeB M x p = true := by simp [comeB, hI, hQ, c26]
        refine j_iret C E rfl rfl d_Desk_come_50 ?_
        exact ⟨rfl, hF1, by rw [hb]; rfl, by rw [hb]; exact hD⟩
      · skip
        have c26 : prioF p = false := bI_0.mp (by simpa using c26)
        refine j_iconst (v := 0) C d_Desk_come_29 (by decide) ?_
        refine j_goto (tgt := 50) C d_Desk_come_30 (by decide) ?_
        refine j_iret C E rfl rfl d_Desk_come_50 ?_
        have hb : comeB M x p = false := by simp [comeB, c26]
        exact ⟨rfl, FrM.refl, by rw [hb]; rfl, by rw [hb]; exact h⟩

set_option maxHeartbeats 4000000 in
set_option maxRecDepth 100000 in
/-- OrderDesk.leave -/
theorem c_Desk_leave (l : Launch) (D : jD) (N0 : Nat) {tt : jT} {mi : jI} {mr : jR} {dk od ia ls ch : Nat} {it ma io : Nat → Nat} {M : Mt} (h : Dk tt mi mr dk od ia ls ch it ma io M) (hM : MI M) (x : Int32) : Ct l D N0 3 0 0 y_Desk_leave b_Desk_leave 3 (some .boolean) [va_rf (some dk), .int x] tt mi mr (fun v tt' mi' mr' => tt' = tt ∧ FrM tt mi mr mi' mr' ∧ v = some (.int (bI (isQ M x))) ∧ Dk tt mi' mr' dk od ia ls ch it ma io (leaveM M x)) := by
  refine Ct.of "OrderDesk" (by decide +kernel) rfl (by simp [cat_rf, cat_int]) (Nat.le_of_ble_eq_true rfl) (fun X hXl hXd hXn C E I hWT => ?_)
  subst hXl hXd hXn
  obtain ⟨ms, OA, Cs0, F0, LM0, hS, hV, hO, hL0⟩ := id h
  have tdk := hS.1.1
  have hdk := hS.1.2.1
  have tod := hS.1.2.2.1
  have hoia := hS.1.2.2.2.1
  have hols := hS.1.2.2.2.2.1
  have tia := hS.1.2.2.2.2.2
  have hit : ∀ i, i < 200 → mr ia i = some (it i) := fun i hi => (hS.2 i hi).1
  have hqF := qF_eq hV x
  refine j_aload_n C d_Desk_leave_0 rfl ?_
  refine j_gets C d_Desk_leave_1 fl_Desk_14 cl_Desk rfl (by assumption) rfl hdk (fun t1 => ?_)
  refine j_iload_n C d_Desk_leave_4 rfl ?_
  refine j_callVr C [.int x] d_Desk_leave_5 ml_Desk_23 mv_Orders_queued k_Orders_queued ⟨_, _, rfl⟩ tod (c_Orders_queued _ _ _ tod hoia hit x) (by decide) (by decide) rfl (Nat.le_of_ble_eq_true rfl) (Nat.le_of_ble_eq_true rfl) rfl (by simp [cat_rf, cat_int]) ?_
  rw [hqF]
  cases hQ : isQ M x with
  | false =>
    rw [show qD M it x = none by simp [qD, hQ]]
    refine j_astore_n C d_Desk_leave_8 (Nat.le_of_ble_eq_true rfl) ?_
    refine j_aload_n C d_Desk_leave_9 rfl ?_
    refine j_ifnonnull_n (tgt := 15) C d_Desk_leave_10 (by decide) ?_
    refine j_iconst (v := 0) C d_Desk_leave_13 (by decide) ?_
    refine j_iret C E rfl (by first | rfl | exact nar_bI _) d_Desk_leave_14 ?_
    exact ⟨rfl, FrM.refl, by rw [hQ]; rfl, by simp only [leaveM, hQ]; exact h⟩
  | true =>
    rw [show qD M it x = some (it (ixN x)) by simp [qD, hQ]]
    have hQ2 : itemF x = true ∧ qdM M (ixN x) = true := by simpa [isQ] using hQ
    obtain ⟨hi, hix⟩ : ixN x < 200 ∧ x = nI (ixN x) := itemF_spec hQ2.1
    have hw := hS.2 (ixN x) hi
    refine j_astore_n C d_Desk_leave_8 (Nat.le_of_ble_eq_true rfl) ?_
    refine j_aload_n C d_Desk_leave_9 rfl ?_
    refine j_ifnonnull_s (tgt := 15) C d_Desk_leave_10 (by decide) ?_
    refine j_aload_n C d_Desk_leave_15 rfl ?_
    refine j_gets C d_Desk_leave_16 fl_Desk_14 cl_Desk rfl (by assumption) rfl hdk (fun t16 => ?_)
    refine j_aload_n C d_Desk_leave_19 rfl ?_
    refine j_callV C [va_rf (some (it (ixN x)))] d_Desk_leave_20 ml_Desk_46 mv_Orders_exit k_Orders_exit ⟨_, _, rfl⟩ tod (c_Orders_exit _ _ _ h hM hi hQ2.2) (by decide) (by decide) rfl (Nat.le_of_ble_eq_true rfl) (Nat.le_of_ble_eq_true rfl) rfl (by simp [cat_rf, cat_int]) (fun v20 tt20 mi20 mr20 p20 => ?_)
    obtain ⟨rfl, rfl, hF1, hD⟩ := p20
    change J X _ mi20 mr20 0 0 23 _ []
    refine j_aload_n C d_Desk_leave_23 rfl ?_
    refine j_iconst (v := 0) C d_Desk_leave_24 (by decide) ?_
    refine j_puti C d_Desk_leave_25 fl_Desk_50 cl_Item (fun C T N h => by cases h; exact Or.inl rfl) hw.2.1 (fun f g => ⟨rfl, Nat.le_of_ble_eq_true rfl⟩) rfl rfl (fun mi25 hm25 => ?_)
    refine j_iconst (v := 1) C d_Desk_leave_28 (by decide) ?_
    refine j_iret C E rfl (by first | rfl | exact nar_bI _) d_Desk_leave_29 ?_
    subst hm25
    have hq2 : qdM (exitM M (ixN x)) (ixN x) = false := by simp [exitM, qdM, va_up]
    obtain ⟨d1, d2⟩ := row_nil hD hi hq2
    exact ⟨rfl, hF1.trans d2, by rw [hQ]; rfl, by rw [leaveM, if_pos hQ]; exact d1⟩

set_option maxHeartbeats 4000000 in
set_option maxRecDepth 100000 in
/-- OrderDesk.again -/
theorem c_Desk_again (l : Launch) (D : jD) (N0 : Nat) {tt : jT} {mi : jI} {mr : jR} {dk od ia ls ch : Nat} {it ma io : Nat → Nat} {M : Mt} (h : Dk tt mi mr dk od ia ls ch it ma io M) (hM : MI M) (hn : nM M < 2 ^ 30) (x p : Int32) : Ct l D N0 4 0 0 y_Desk_again b_Desk_again 4 (some .int) [va_rf (some dk), .int x, .int p] tt mi mr (fun v tt' mi' mr' => tt' = tt ∧ FrM tt mi mr mi' mr' ∧ v = some (.int (arrN M (againB M x p))) ∧ Dk tt mi' mr' dk od ia ls ch it ma io (arrM M (againB M x p) x p)) := by
  refine Ct.of "OrderDesk" (by decide +kernel) rfl (by simp [cat_rf, cat_int]) (Nat.le_of_ble_eq_true rfl) (fun X hXl hXd hXn C E I hWT => ?_)
  subst hXl hXd hXn
  obtain ⟨ms, OA, Cs0, F0, LM0, hS, hV, hO, hL0⟩ := id h
  have tdk := hS.1.1
  have hdk := hS.1.2.1
  have tod := hS.1.2.2.1
  have hoia := hS.1.2.2.2.1
  have hols := hS.1.2.2.2.2.1
  have tia := hS.1.2.2.2.2.2
  have hit : ∀ i, i < 200 → mr ia i = some (it i) := fun i hi => (hS.2 i hi).1
  have hqF := qF_eq hV x
  refine j_aload_n C d_Desk_again_0 rfl ?_
  refine j_gets C d_Desk_again_1 fl_Desk_14 cl_Desk rfl (by assumption) rfl hdk (fun t1 => ?_)
  refine j_iload_n C d_Desk_again_4 rfl ?_
  refine j_callVr C [.int x] d_Desk_again_5 ml_Desk_23 mv_Orders_queued k_Orders_queued ⟨_, _, rfl⟩ tod (c_Orders_queued _ _ _ tod hoia hit x) (by decide) (by decide) rfl (Nat.le_of_ble_eq_true rfl) (Nat.le_of_ble_eq_true rfl) rfl (by simp [cat_rf, cat_int]) ?_
  rw [hqF]
  cases hQ : isQ M x with
  | false =>
    rw [show qD M it x = none by simp [qD, hQ]]
    refine j_astore_n C d_Desk_again_8 (Nat.le_of_ble_eq_true rfl) ?_
    refine j_aload_n C d_Desk_again_9 rfl ?_
    refine j_ifnull_n (tgt := 20) C d_Desk_again_10 (by decide) ?_
    refine j_iconst (v := 0) C d_Desk_again_20 (by decide) ?_
    refine j_iret C E rfl rfl d_Desk_again_21 ?_
    have hb : againB M x p = false := by simp [againB, hQ]
    exact ⟨rfl, FrM.refl, by rw [hb]; rfl, by rw [hb]; exact h⟩
  | true =>
    rw [show qD M it x = some (it (ixN x)) by simp [qD, hQ]]
    have hQ2 : itemF x = true ∧ qdM M (ixN x) = true := by simpa [isQ] using hQ
    obtain ⟨hi, hix⟩ : ixN x < 200 ∧ x = nI (ixN x) := itemF_spec hQ2.1
    have hw := hS.2 (ixN x) hi
    refine j_astore_n C d_Desk_again_8 (Nat.le_of_ble_eq_true rfl) ?_
    refine j_aload_n C d_Desk_again_9 rfl ?_
    refine j_ifnull_s (tgt := 20) C d_Desk_again_10 (by decide) ?_
    refine j_iload_n C d_Desk_again_13 rfl ?_
    refine j_callSi C [.int p] d_Desk_again_14 ml_Desk_39 ms_Desk_isPriority k_Desk_isPriority (c_Desk_isPriority _ _ _ p) (by decide) (by decide) rfl (Nat.le_of_ble_eq_true rfl) (Nat.le_of_ble_eq_true rfl) rfl (by simp [cat_rf, cat_int]) ?_
    refine j_if_ne (tgt := 22) C d_Desk_again_17 (by decide) (fun c17 => ?_) (fun c17 => ?_)
    · skip
      rw [bI_0, Bool.not_eq_false] at c17
      refine j_aload_n C d_Desk_again_22 rfl ?_
      refine j_gets C d_Desk_again_23 fl_Desk_14 cl_Desk rfl (by assumption) rfl hdk (fun t23 => ?_)
      refine j_aload_n C d_Desk_again_26 rfl ?_
      refine j_callV C [va_rf (some (it (ixN x)))] d_Desk_again_27 ml_Desk_46 mv_Orders_exit k_Orders_exit ⟨_, _, rfl⟩ tod (c_Orders_exit _ _ _ h hM hi hQ2.2) (by decide) (by decide) rfl (Nat.le_of_ble_eq_true rfl) (Nat.le_of_ble_eq_true rfl) rfl (by simp [cat_rf, cat_int]) (fun v27 tt27 mi27 mr27 p27 => ?_)
      obtain ⟨rfl, rfl, hF1, hD⟩ := p27
      change J X _ mi27 mr27 0 0 30 _ []
      have hdk1 : mr27 dk 0 = some od := by obtain ⟨ms1, OA1, Cs1, F1, LM1, hS1, -⟩ := id hD; exact hS1.1.2.1
      refine j_aload_n C d_Desk_again_30 rfl ?_
      refine j_gets (b := od) C d_Desk_again_31 fl_Desk_14 cl_Desk rfl (by assumption) rfl hdk1 (fun t31 => ?_)
      refine j_aload_n C d_Desk_again_34 rfl ?_
      refine j_iload_n C d_Desk_again_35 rfl ?_
      refine j_callV C [va_rf (some (it (ixN x))), .int p] d_Desk_again_36 ml_Desk_42 mv_Orders_enter k_Orders_enter ⟨_, _, rfl⟩ tod (c_Orders_enter _ _ _ hD (hM.exit _) hn hi (by simp [exitM, qdM, va_up]) p) (by decide) (by decide) rfl (Nat.le_of_ble_eq_true rfl) (Nat.le_of_ble_eq_true rfl) rfl (by simp [cat_rf, cat_int]) (fun v36 tt36 mi36 mr36 p36 => ?_)
      obtain ⟨rfl, hF2, rfl, hD2⟩ := p36
      refine j_iret C E rfl rfl d_Desk_again_39 ?_
      have hb : againB M x p = true := by simp [againB, hQ, c17]
      rw [comeM_exit] at hD2
      exact ⟨rfl, hF1.trans hF2, by rw [hb]; rfl, by rw [hb]; exact hD2⟩
    · skip
      have c17 : prioF p = false := bI_0.mp (by simpa using c17)
      refine j_iconst (v := 0) C d_Desk_again_20 (by decide) ?_
      refine j_iret C E rfl rfl d_Desk_again_21 ?_
      have hb : againB M x p = false := by simp [againB, c17]
      exact ⟨rfl, FrM.refl, by rw [hb]; rfl, by rw [hb]; exact h⟩

set_option maxHeartbeats 4000000 in
set_option maxRecDepth 100000 in
/-- OrderDesk.join -/
theorem c_Desk_join (l : Launch) (D : jD) (N0 : Nat) {tt : jT} {mi : jI} {mr : jR} {dk od ia ls ch : Nat} {it ma io : Nat → Nat} {M : Mt} (h : Dk tt mi mr dk od ia ls ch it ma io M) (hM : MI M) (x p : Int32) : Ct l D N0 4 0 0 y_Desk_join b_Desk_join 4 (some .boolean) [va_rf (some dk), .int x, .int p] tt mi mr (fun v tt' mi' mr' => tt' = tt ∧ FrM tt mi mr mi' mr' ∧ v = some (.int (bI (joinB M x p))) ∧ Dk tt mi' mr' dk od ia ls ch it ma io (joinM M x p)) := by
  refine Ct.of "OrderDesk" (by decide +kernel) rfl (by simp [cat_rf, cat_int]) (Nat.le_of_ble_eq_true rfl) (fun X hXl hXd hXn C E I hWT => ?_)
  subst hXl hXd hXn
  obtain ⟨ms, OA, Cs0, F0, LM0, hS, hV, hO, hL0⟩ := id h
  have tdk := hS.1.1
  have hdk := hS.1.2.1
  have tod := hS.1.2.2.1
  have hoia := hS.1.2.2.2.1
  have hols := hS.1.2.2.2.2.1
  have tia := hS.1.2.2.2.2.2
  have hit : ∀ i, i < 200 → mr ia i = some (it i) := fun i hi => (hS.2 i hi).1
  have hqF := qF_eq hV x
  refine j_aload_n C d_Desk_join_0 rfl ?_
  refine j_gets C d_Desk_join_1 fl_Desk_14 cl_Desk rfl (by assumption) rfl hdk (fun t1 => ?_)
  refine j_iload_n C d_Desk_join_4 rfl ?_
  refine j_callVr C [.int x] d_Desk_join_5 ml_Desk_23 mv_Orders_queued k_Orders_queued ⟨_, _, rfl⟩ tod (c_Orders_queued _ _ _ tod hoia hit x) (by decide) (by decide) rfl (Nat.le_of_ble_eq_true rfl) (Nat.le_of_ble_eq_true rfl) rfl (by simp [cat_rf, cat_int]) ?_
  rw [hqF]
  cases hQ : isQ M x with
  | false =>
    rw [show qD M it x = none by simp [qD, hQ]]
    refine j_astore_n C d_Desk_join_8 (Nat.le_of_ble_eq_true rfl) ?_
    refine j_aload_n C d_Desk_join_9 rfl ?_
    refine j_ifnull_n (tgt := 36) C d_Desk_join_10 (by decide) ?_
    refine j_iconst (v := 0) C d_Desk_join_36 (by decide) ?_
    refine j_iret C E rfl (by first | rfl | exact nar_bI _) d_Desk_join_37 ?_
    have hb : joinB M x p = false := by simp [joinB, hQ]
    exact ⟨rfl, FrM.refl, by rw [hb]; rfl, by simp only [joinM, hb]; exact h⟩
  | true =>
    rw [show qD M it x = some (it (ixN x)) by simp [qD, hQ]]
    have hQ2 : itemF x = true ∧ qdM M (ixN x) = true := by simpa [isQ] using hQ
    obtain ⟨hi, hix⟩ : ixN x < 200 ∧ x = nI (ixN x) := itemF_spec hQ2.1
    have hw := hS.2 (ixN x) hi
    refine j_astore_n C d_Desk_join_8 (Nat.le_of_ble_eq_true rfl) ?_
    refine j_aload_n C d_Desk_join_9 rfl ?_
    refine j_ifnull_s (tgt := 36) C d_Desk_join_10 (by decide) ?_
    refine j_iload_n C d_Desk_join_13 rfl ?_
    refine j_callSi C [.int p] d_Desk_join_14 ml_Desk_27 ms_Desk_isPosition k_Desk_isPosition (c_Desk_isPosition _ _ _ p) (by decide) (by decide) rfl (Nat.le_of_ble_eq_true rfl) (Nat.le_of_ble_eq_true rfl) rfl (by simp [cat_rf, cat_int]) ?_
    refine j_if_eq (tgt := 36) C d_Desk_join_17 (by decide) (fun c17 => ?_) (fun c17 => ?_)
    · skip
      rw [bI_0] at c17
      refine j_iconst (v := 0) C d_Desk_join_36 (by decide) ?_
      refine j_iret C E rfl (by first | rfl | exact nar_bI _) d_Desk_join_37 ?_
      have hb : joinB M x p = false := by simp [joinB, c17]
      exact ⟨rfl, FrM.refl, by rw [hb]; rfl, by simp only [joinM, hb]; exact h⟩
    · skip
      rw [bI_0, Bool.not_eq_false] at c17
      refine j_aload_n C d_Desk_join_20 rfl ?_
      refine j_gets C d_Desk_join_21 fl_Desk_14 cl_Desk rfl (by assumption) rfl hdk (fun t21 => ?_)
      refine j_aload_n C d_Desk_join_24 rfl ?_
      refine j_iload_n C d_Desk_join_25 rfl ?_
      refine j_callV C [va_rf (some (it (ixN x))), .int p] d_Desk_join_26 ml_Desk_54 mv_Orders_join k_Orders_join ⟨_, _, rfl⟩ tod (c_Orders_join _ _ _ hS hV hO hL0 hM hi hQ2.2 p) (by decide) (by decide) rfl (Nat.le_of_ble_eq_true rfl) (Nat.le_of_ble_eq_true rfl) rfl (by simp [cat_rf, cat_int]) (fun v26 tt26 mi26 mr26 p26 => ?_)
      obtain ⟨rfl, hF1, hcase⟩ := p26
      rcases hcase with ⟨hmo, rfl, hD⟩ | ⟨hmo, rfl, hD⟩
      · change J X _ _ _ 0 0 29 _ [.int 0]
        refine j_if_eq (tgt := 36) C d_Desk_join_29 (by decide) (fun c29 => ?_) (fun c29 => ?_)
        · skip
          refine j_iconst (v := 0) C d_Desk_join_36 (by decide) ?_
          refine j_iret C E rfl (by first | rfl | exact nar_bI _) d_Desk_join_37 ?_
          have hb : joinB M x p = false := by simp [joinB, hmo]
          exact ⟨rfl, hF1, by rw [hb]; rfl, by simp only [joinM, hb]; exact hD⟩
        · skip
          exact absurd rfl c29
      · change J X _ _ _ 0 0 29 _ [.int 1]
        refine j_if_eq (tgt := 36) C d_Desk_join_29 (by decide) (fun c29 => ?_) (fun c29 => ?_)
        · skip
          exact absurd c29 (by decide)
        · skip
          refine j_iconst (v := 1) C d_Desk_join_32 (by decide) ?_
          refine j_goto (tgt := 37) C d_Desk_join_33 (by decide) ?_
          refine j_iret C E rfl (by first | rfl | exact nar_bI _) d_Desk_join_37 ?_
          have hb : joinB M x p = true := by simp [joinB, hQ, c17, hmo]
          exact ⟨rfl, hF1, by rw [hb]; rfl, by rw [joinM, if_pos hb]; exact hD⟩

set_option maxHeartbeats 4000000 in
set_option maxRecDepth 100000 in
/-- OrderDesk.part -/
theorem c_Desk_part (l : Launch) (D : jD) (N0 : Nat) {tt : jT} {mi : jI} {mr : jR} {dk od ia ls ch : Nat} {it ma io : Nat → Nat} {M : Mt} (h : Dk tt mi mr dk od ia ls ch it ma io M) (hM : MI M) (x p : Int32) : Ct l D N0 3 0 0 y_Desk_part b_Desk_part 5 (some .boolean) [va_rf (some dk), .int x, .int p] tt mi mr (fun v tt' mi' mr' => tt' = tt ∧ FrM tt mi mr mi' mr' ∧ v = some (.int (bI (partB M x p))) ∧ Dk tt mi' mr' dk od ia ls ch it ma io (partM M x p)) := by
  refine Ct.of "OrderDesk" (by decide +kernel) rfl (by simp [cat_rf, cat_int]) (Nat.le_of_ble_eq_true rfl) (fun X hXl hXd hXn C E I hWT => ?_)
  subst hXl hXd hXn
  obtain ⟨ms, OA, Cs0, F0, LM0, hS, hV, hO, hL0⟩ := id h
  have tdk := hS.1.1
  have hdk := hS.1.2.1
  have tod := hS.1.2.2.1
  have hoia := hS.1.2.2.2.1
  have hols := hS.1.2.2.2.2.1
  have tia := hS.1.2.2.2.2.2
  have hit : ∀ i, i < 200 → mr ia i = some (it i) := fun i hi => (hS.2 i hi).1
  have hqF := qF_eq hV x
  refine j_aload_n C d_Desk_part_0 rfl ?_
  refine j_gets C d_Desk_part_1 fl_Desk_14 cl_Desk rfl (by assumption) rfl hdk (fun t1 => ?_)
  refine j_iload_n C d_Desk_part_4 rfl ?_
  refine j_callVr C [.int x] d_Desk_part_5 ml_Desk_23 mv_Orders_queued k_Orders_queued ⟨_, _, rfl⟩ tod (c_Orders_queued _ _ _ tod hoia hit x) (by decide) (by decide) rfl (Nat.le_of_ble_eq_true rfl) (Nat.le_of_ble_eq_true rfl) rfl (by simp [cat_rf, cat_int]) ?_
  rw [hqF]
  cases hQ : isQ M x with
  | false =>
    rw [show qD M it x = none by simp [qD, hQ]]
    refine j_astore_n C d_Desk_part_8 (Nat.le_of_ble_eq_true rfl) ?_
    refine j_aload_n C d_Desk_part_9 rfl ?_
    refine j_ifnonnull_n (tgt := 17) C d_Desk_part_10 (by decide) ?_
    refine j_null C d_Desk_part_13 ?_
    refine j_goto (tgt := 22) C d_Desk_part_14 (by decide) ?_
    refine j_astore C d_Desk_part_22 (Nat.le_of_ble_eq_true rfl) ?_
    refine j_aload C d_Desk_part_24 rfl ?_
    refine j_ifnonnull_n (tgt := 31) C d_Desk_part_26 (by decide) ?_
    refine j_iconst (v := 0) C d_Desk_part_29 (by decide) ?_
    refine j_iret C E rfl (by first | rfl | exact nar_bI _) d_Desk_part_30 ?_
    have hb : partB M x p = false := by simp [partB, hQ]
    exact ⟨rfl, FrM.refl, by rw [hb]; rfl, by simp only [partM, hb]; exact h⟩
  | true =>
    rw [show qD M it x = some (it (ixN x)) by simp [qD, hQ]]
    have hQ2 : itemF x = true ∧ qdM M (ixN x) = true := by simpa [isQ] using hQ
    obtain ⟨hi, hix⟩ : ixN x < 200 ∧ x = nI (ixN x) := itemF_spec hQ2.1
    have hw := hS.2 (ixN x) hi
    have hv := hV.2 (ixN x) hi
    refine j_astore_n C d_Desk_part_8 (Nat.le_of_ble_eq_true rfl) ?_
    refine j_aload_n C d_Desk_part_9 rfl ?_
    refine j_ifnonnull_s (tgt := 17) C d_Desk_part_10 (by decide) ?_
    refine j_aload_n C d_Desk_part_17 rfl ?_
    refine j_iload_n C d_Desk_part_18 rfl ?_
    refine j_callVr C [.int p] d_Desk_part_19 ml_Desk_58 mv_Item_of k_Item_of ⟨_, _, rfl⟩ hw.2.1 (c_Item_of _ _ _ hw.2.1 hv.2.2.2.1 (hM.1 _ hi).2.1 hw.2.2.2.1 hw.2.2.2.2.2.1 p) (by decide) (by decide) rfl (Nat.le_of_ble_eq_true rfl) (Nat.le_of_ble_eq_true rfl) rfl (by simp [cat_rf, cat_int]) ?_
    cases hof : ((ms (ixN x)).take (tkM M (ixN x)).length).find? (fun m => decide (mi m 1 = p)) with
    | none =>
      have hpn := (find_row hv.2.2.2.2 p).mp hof
      refine j_astore C d_Desk_part_22 (Nat.le_of_ble_eq_true rfl) ?_
      refine j_aload C d_Desk_part_24 rfl ?_
      refine j_ifnonnull_n (tgt := 31) C d_Desk_part_26 (by decide) ?_
      refine j_iconst (v := 0) C d_Desk_part_29 (by decide) ?_
      refine j_iret C E rfl (by first | rfl | exact nar_bI _) d_Desk_part_30 ?_
      have hb : partB M x p = false := by simp [partB, hpn]
      exact ⟨rfl, FrM.refl, by rw [hb]; rfl, by simp only [partM, hb]; exact h⟩
    | some m =>
      have hmp : mi m 1 = p := by simpa using List.find?_some hof
      have hmt := List.mem_of_find?_eq_some hof
      obtain ⟨A, B, e1⟩ := List.append_of_mem hmt
      have tm := (hw.2.2.2.2.2.2.2 m (List.mem_of_mem_take hmt)).1
      refine j_astore C d_Desk_part_22 (Nat.le_of_ble_eq_true rfl) ?_
      refine j_aload C d_Desk_part_24 rfl ?_
      refine j_ifnonnull_s (tgt := 31) C d_Desk_part_26 (by decide) ?_
      refine j_aload_n C d_Desk_part_31 rfl ?_
      refine j_gets C d_Desk_part_32 fl_Desk_14 cl_Desk rfl (by assumption) rfl hdk (fun t32 => ?_)
      refine j_aload_n C d_Desk_part_35 rfl ?_
      refine j_aload C d_Desk_part_36 rfl ?_
      refine j_callV C [va_rf (some (it (ixN x))), va_rf (some m)] d_Desk_part_38 ml_Desk_62 mv_Orders_part k_Orders_part ⟨_, _, rfl⟩ tod (c_Orders_part _ _ _ hS hV hO hL0 hM hi hQ2.2 e1) (by decide) (by decide) rfl (Nat.le_of_ble_eq_true rfl) (Nat.le_of_ble_eq_true rfl) rfl (by simp [cat_rf, cat_int]) (fun v38 tt38 mi38 mr38 p38 => ?_)
      obtain ⟨rfl, rfl, hF1, hD⟩ := p38
      change J X _ mi38 mr38 0 0 41 _ []
      refine j_iconst (v := 1) C d_Desk_part_41 (by decide) ?_
      refine j_iret C E rfl (by first | rfl | exact nar_bI _) d_Desk_part_42 ?_
      have hpi : p ∈ tkM M (ixN x) := by rw [← hv.2.2.2.2]; exact List.mem_map.mpr ⟨m, hmt, hmp⟩
      have hb : partB M x p = true := by simp [partB, hQ, hpi]
      rw [hmp] at hD
      exact ⟨rfl, hF1, by rw [hb]; rfl, by rw [partM, if_pos hb]; exact hD⟩
end
section
/-! THE MODEL: it holds M; its methods that change it -/
def MR (tt : jT) (mi : jI) (mr : jR) (md aq ap aa am ak : Nat) (M : Mt) : Prop :=
  (tt md = some (.inl 6) ∧ mr md 0 = some aq ∧ mr md 1 = some ap ∧ mr md 2 = some aa ∧ mr md 3 = some am ∧ mr md 4 = some ak) ∧ (tt aq = some (.inr (4, 200)) ∧ tt ap = some (.inr (3, 200)) ∧ tt aa = some (.inr (3, 200)) ∧ tt am = some (.inr (3, 200)) ∧ tt ak = some (.inr (3, 1600)) ∧ ap ≠ aa ∧ ap ≠ am ∧ aa ≠ am) ∧
  mi md 5 = nI (nM M) ∧ ∀ i, i < 200 → mi aq i = bI (qdM M i) ∧ mi ap i = prM M i ∧ mi aa i = arM M i ∧ mi am i = nI (tkM M i).length ∧ ∀ k p, (tkM M i)[k]? = some p → mi ak (8 * i + k) = p
/-- the desk's cells stay -/
def FrD (tt : jT) (mi : jI) (mr : jR) (mi' : jI) (mr' : jR) : Prop := ∀ a q, tt a = some q → mK q = false → mi' a = mi a ∧ mr' a = mr a
theorem FrD.refl {tt : jT} {mi : jI} {mr : jR} : FrD tt mi mr mi mr := fun _ _ _ _ => ⟨rfl, rfl⟩
theorem FrD.trans {tt : jT} {mi mi1 mi2 : jI} {mr mr1 mr2 : jR} (h1 : FrD tt mi mr mi1 mr1) (h2 : FrD tt mi1 mr1 mi2 mr2) : FrD tt mi mr mi2 mr2 := fun a q ha hq => ⟨(h2 a q ha hq).1.trans (h1 a q ha hq).1, (h2 a q ha hq).2.trans (h1 a q ha hq).2⟩
theorem FrD.puti {tt : jT} {mi : jI} {mr : jR} {a k : Nat} {x : Int32} {q : Nat ⊕ (Nat × Nat)} (h : tt a = some q) (hq : mK q = true) : FrD tt mi mr (up2 mi a k x) mr := fun b p hb hp => ⟨up2_off _ _ _ _ (fun e => by rw [e, h] at hb; cases hb; rw [hq] at hp; cases hp), rfl⟩
theorem MR.keep {tt : jT} {mi mi' : jI} {mr mr' : jR} {md aq ap aa am ak : Nat} {M : Mt} (h : MR tt mi mr md aq ap aa am ak M) (hF : FrM tt mi mr mi' mr') : MR tt mi' mr' md aq ap aa am ak M := by
  obtain ⟨a, b, c, d⟩ := h
  have f0 := hF md _ a.1 rfl
  refine ⟨by rw [f0.2]; exact a, b, by rw [f0.1]; exact c, fun i hi => ?_⟩
  rw [(hF aq _ b.1 rfl).1, (hF ap _ b.2.1 rfl).1, (hF aa _ b.2.2.1 rfl).1, (hF am _ b.2.2.2.1 rfl).1, (hF ak _ b.2.2.2.2.1 rfl).1]
  exact d i hi
theorem Dk.keep {tt : jT} {mi mi' : jI} {mr mr' : jR} {dk od ia ls ch : Nat} {it ma io : Nat → Nat} {M : Mt} (h : Dk tt mi mr dk od ia ls ch it ma io M) (hF : FrD tt mi mr mi' mr') : Dk tt mi' mr' dk od ia ls ch it ma io M := by
  obtain ⟨ms, OA, Cs, F, LM, hS, hV, hO, hL⟩ := h
  have tod := hS.1.2.2.1
  have fo := hF od _ tod rfl
  have fI : ∀ j, j < 200 → mi' (it j) = mi (it j) ∧ mr' (it j) = mr (it j) := fun j hj => hF _ _ (hS.2 j hj).2.1 rfl
  have fm : ∀ j, j < 200 → ∀ m ∈ ms j, mi' m = mi m ∧ mr' m = mr m := fun j hj m hm => hF m _ ((hS.2 j hj).2.2.2.2.2.2.2 m hm).1 rfl
  refine ⟨ms, OA, Cs, F, LM, hS.congr ?_ ?_ ?_ (fun j hj => ⟨?_, ?_, ?_⟩) (fun j hj m hm => by rw [(fm j hj m hm).2]), ⟨by rw [fo.1]; exact hV.1, fun j hj => ?_⟩, ⟨hO.1.congr (by rw [fo.2]; exact ⟨rfl, rfl⟩) (fun x hx => ?_), by rw [fo.1]; exact hO.2.1, hO.2.2.1.congr (fun x hx => ?_), hO.2.2.2⟩, hL.congr (fun a ha _ => ?_) (fun m hm => ?_) (fun _ => Iff.rfl) (fun _ z => z)⟩
  · rw [(hF dk _ hS.1.1 rfl).2]
  · rw [fo.2]; exact ⟨rfl, rfl⟩
  · rw [(hF ia _ hS.1.2.2.2.2.2 rfl).2]
  · rw [(fI j hj).1]
  · rw [(fI j hj).2]
  · rw [(hF _ _ (hS.2 j hj).2.2.2.2.1 rfl).2]
  · obtain ⟨v1, v2, v3, v4, v5⟩ := hV.2 j hj
    rw [(fI j hj).1]
    refine ⟨v1, v2, v3, v4, Eq.trans (List.map_congr_left (fun m hm => ?_)) v5⟩
    rw [(fm j hj m (List.mem_of_mem_take hm)).1]
  · rw [(hF x _ (hO.a hS hx) rfl).2]; exact ⟨rfl, rfl⟩
  · show mi' x 3 = mi x 3 ∧ mi' x 4 = mi x 4
    rw [(hF x _ (hO.a hS hx) rfl).1]; exact ⟨rfl, rfl⟩
  · rcases ha with h | h | h | h <;> exact hF a _ h rfl
  · rw [(hF _ _ (hL.2.2.2.2.2.2.2.2.2.2.2.2 m hm).2.2.1 rfl).1]; exact ⟨rfl, rfl⟩
theorem posG_eq (x : Int32) : posG x = posF x := by
  unfold posG posF
  have e : (99999 < x) ↔ ((100000 : Int32) ≤ x) := by
    rw [Int32.lt_iff_toInt_lt, Int32.le_iff_toInt_le]
    have h1 : (99999 : Int32).toInt = 99999 := by decide
    have h2 : (100000 : Int32).toInt = 100000 := by decide
    rw [h1, h2]
    omega
  rw [decide_eq_decide.mpr e]
theorem m8 (i k : Nat) : (8 : Int32) * nI i + nI k = nI (8 * i + k) := by rw [show (8 : Int32) = nI 8 from rfl, pk_mul, nI_add]

set_option maxHeartbeats 4000000 in
set_option maxRecDepth 100000 in
theorem c_Model_isQueued (l : Launch) (D : jD) (N0 : Nat) {tt : jT} {mi : jI} {mr : jR} {md aq ap aa am ak : Nat} {M : Mt} (h : MR tt mi mr md aq ap aa am ak M) (x : Int32) : Ct l D N0 1 0 0 y_Model_isQueued b_Model_isQueued 2 (some .boolean) [va_rf (some md), .int x] tt mi mr (pI (bI (isQ M x)) tt mi mr) := by
  refine Ct.of "OrderDeskModel" (by decide +kernel) rfl (by simp [cat_rf, cat_int]) (Nat.le_of_ble_eq_true rfl) (fun X hXl hXd hXn C E I hWT => ?_)
  subst hXl hXd hXn
  obtain ⟨⟨tmd, hq0, hp0, ha0, hm0, hk0⟩, ⟨tq, tp, ta, tm, tk, npa, npm, nam⟩, hN, hR⟩ := id h
  refine j_iload_n C d_Model_isQueued_0 rfl ?_
  refine j_callSi C [.int x] d_Model_isQueued_1 ml_Model_26 ms_Model_isItem k_Model_isItem (c_Model_isItem _ _ _ x) (by decide) (by decide) rfl (Nat.le_of_ble_eq_true rfl) (Nat.le_of_ble_eq_true rfl) rfl (by simp [cat_rf, cat_int]) ?_
  refine j_if_eq (tgt := 20) C d_Model_isQueued_4 (by decide) (fun c4 => ?_) (fun c4 => ?_)
  · skip
    rw [bI_0] at c4
    refine j_iconst (v := 0) C d_Model_isQueued_20 (by decide) ?_
    refine j_iret C E rfl (by first | rfl | exact nar_bI _) d_Model_isQueued_21 ?_
    refine ⟨?_, rfl, rfl, rfl⟩
    first | (simp [isQ, c4, c13, bI]; done) | simp [isQ, c4, bI]
  · skip
    rw [bI_0, Bool.not_eq_false] at c4
    obtain ⟨hi, hix⟩ : ixN x < 200 ∧ x = nI (ixN x) := itemF_spec c4
    refine j_aload_n C d_Model_isQueued_7 rfl ?_
    refine j_gets C d_Model_isQueued_8 fl_Model_7 cl_Model rfl (by assumption) rfl hq0 (fun t8 => ?_)
    refine j_iload_n C d_Model_isQueued_11 rfl ?_
    refine j_zald C (ixN x) d_Model_isQueued_12 (by assumption) hix hi (by decide) ?_
    refine j_if_eq (tgt := 20) C d_Model_isQueued_13 (by decide) (fun c13 => ?_) (fun c13 => ?_)
    · skip
      rw [(hR _ hi).1, bI_0] at c13
      refine j_iconst (v := 0) C d_Model_isQueued_20 (by decide) ?_
      refine j_iret C E rfl (by first | rfl | exact nar_bI _) d_Model_isQueued_21 ?_
      refine ⟨?_, rfl, rfl, rfl⟩
      first | (simp [isQ, c4, c13, bI]; done) | simp [isQ, c4, bI]
    · skip
      rw [(hR _ hi).1, bI_0, Bool.not_eq_false] at c13
      refine j_iconst (v := 1) C d_Model_isQueued_16 (by decide) ?_
      refine j_goto (tgt := 21) C d_Model_isQueued_17 (by decide) ?_
      refine j_iret C E rfl (by first | rfl | exact nar_bI _) d_Model_isQueued_21 ?_
      refine ⟨?_, rfl, rfl, rfl⟩
      first | (simp [isQ, c4, c13, bI]; done) | simp [isQ, c4, bI]

set_option maxHeartbeats 4000000 in
set_option maxRecDepth 100000 in
theorem c_Model_takesFrom (l : Launch) (D : jD) (N0 : Nat) {tt : jT} {mi : jI} {mr : jR} {md aq ap aa am ak : Nat} {M : Mt} (h : MR tt mi mr md aq ap aa am ak M) (hlen : ∀ i, i < 200 → (tkM M i).length ≤ 8) {i : Nat} (hi : i < 200) {x : Int32} (hx : x = nI i) (p : Int32) : Ct l D N0 0 0 0 y_Model_takesFrom b_Model_takesFrom 4 (some .boolean) [va_rf (some md), .int x, .int p] tt mi mr (pI (bI (decide (p ∈ tkM M i))) tt mi mr) := by
  refine Ct.of "OrderDeskModel" (by decide +kernel) rfl (by simp [cat_rf, cat_int]) (Nat.le_of_ble_eq_true rfl) (fun X hXl hXd hXn C E I hWT => ?_)
  subst hXl hXd hXn
  obtain ⟨⟨tmd, hq0, hp0, ha0, hm0, hk0⟩, ⟨tq, tp, ta, tm, tk, npa, npm, nam⟩, hN, hR⟩ := id h
  subst hx
  have hl8 := hlen i hi
  refine j_iconst (v := 0) C d_Model_takesFrom_0 (by decide) ?_
  refine j_istore_n C d_Model_takesFrom_1 (Nat.le_of_ble_eq_true rfl) ?_
  have loop : ∀ (n k : Nat), k ≤ (tkM M i).length → (tkM M i).length < k + n → (∀ j, j < k → (tkM M i)[j]? ≠ some p) → J X tt mi mr 0 0 2 [some (va_rf (some md)), some (.int (nI i)), some (.int p), some (.int (nI k))] [] := by
    intro n
    induction n with
    | zero => intro k h1 h2; exact absurd h2 (by omega)
    | succ n ih =>
      intro k hk hn hinv
      refine j_iload_n C d_Model_takesFrom_2 rfl ?_
      refine j_aload_n C d_Model_takesFrom_3 rfl ?_
      refine j_gets C d_Model_takesFrom_4 fl_Model_20 cl_Model rfl (by assumption) rfl hm0 (fun t4 => ?_)
      refine j_iload_n C d_Model_takesFrom_7 rfl ?_
      refine j_iald C i d_Model_takesFrom_8 (by assumption) rfl hi (by decide) ?_
      refine j_icmp_ge (tgt := 35) C d_Model_takesFrom_9 (by decide) (fun c9 => ?_) (fun c9 => ?_)
      · skip
        rw [(hR i hi).2.2.2.1, nI_leI (by omega) (by omega)] at c9
        refine j_iconst (v := 0) C d_Model_takesFrom_35 (by decide) ?_
        refine j_iret C E rfl (by first | rfl | exact nar_bI _) d_Model_takesFrom_36 ?_
        refine ⟨?_, rfl, rfl, rfl⟩
        rw [decide_eq_false]
        · rfl
        · intro z
          obtain ⟨j, hj⟩ := List.getElem?_of_mem z
          exact hinv j (by have := (List.getElem?_eq_some_iff.mp hj).1; omega) hj
      · skip
        rw [(hR i hi).2.2.2.1, nI_leI (by omega) (by omega)] at c9
        obtain ⟨w, hw⟩ : ∃ w, (tkM M i)[k]? = some w := ⟨_, List.getElem?_eq_getElem (by omega)⟩
        refine j_aload_n C d_Model_takesFrom_12 rfl ?_
        refine j_gets C d_Model_takesFrom_13 fl_Model_23 cl_Model rfl (by assumption) rfl hk0 (fun t13 => ?_)
        refine j_bipush (v := 8) C d_Model_takesFrom_16 (by decide) ?_
        refine j_iload_n C d_Model_takesFrom_18 rfl ?_
        refine j_imul C d_Model_takesFrom_19 ?_
        refine j_iload_n C d_Model_takesFrom_20 rfl ?_
        refine j_iadd C d_Model_takesFrom_21 ?_
        refine j_iald C (8 * i + k) d_Model_takesFrom_22 (by assumption) (m8 i k) (by omega) (by decide) ?_
        refine j_iload_n C d_Model_takesFrom_23 rfl ?_
        refine j_icmp_ne (tgt := 29) C d_Model_takesFrom_24 (by decide) (fun c24 => ?_) (fun c24 => ?_)
        · skip
          rw [(hR i hi).2.2.2.2 k w hw] at c24
          refine j_iinc C d_Model_takesFrom_29 rfl (nI_1 k) ?_
          refine j_goto (tgt := 2) C d_Model_takesFrom_32 (by decide) ?_
          refine ih (k + 1) (by omega) (by omega) (fun j hj e => ?_)
          by_cases z : j = k
          · rw [z, hw] at e
            exact c24 (Option.some.inj e)
          · exact hinv j (by omega) e
        · skip
          rw [(hR i hi).2.2.2.2 k w hw] at c24
          refine j_iconst (v := 1) C d_Model_takesFrom_27 (by decide) ?_
          refine j_iret C E rfl (by first | rfl | exact nar_bI _) d_Model_takesFrom_28 ?_
          exact ⟨by rw [decide_eq_true (by rw [← c24]; exact List.mem_of_getElem? hw)]; rfl, rfl, rfl, rfl⟩
  exact loop ((tkM M i).length + 1) 0 (by omega) (by omega) (fun j hj => absurd hj (by omega))

def befM (M : Mt) (i j : Nat) : Bool := befF (prM M i) (arM M i) (prM M j) (arM M j)
set_option maxHeartbeats 4000000 in
set_option maxRecDepth 100000 in
theorem c_Model_stands (l : Launch) (D : jD) (N0 : Nat) {tt : jT} {mi : jI} {mr : jR} {md aq ap aa am ak : Nat} {M : Mt} (h : MR tt mi mr md aq ap aa am ak M) {i : Nat} (hi : i < 200) {x : Int32} (hx : x = nI i) {j : Nat} (hj : j < 200) {y : Int32} (hy : y = nI j) : Ct l D N0 0 0 0 y_Model_stands b_Model_stands 3 (some .boolean) [va_rf (some md), .int x, .int y] tt mi mr (pI (bI (befM M i j)) tt mi mr) := by
  refine Ct.of "OrderDeskModel" (by decide +kernel) rfl (by simp [cat_rf, cat_int]) (Nat.le_of_ble_eq_true rfl) (fun X hXl hXd hXn C E I hWT => ?_)
  subst hXl hXd hXn
  obtain ⟨⟨tmd, hq0, hp0, ha0, hm0, hk0⟩, ⟨tq, tp, ta, tm, tk, npa, npm, nam⟩, hN, hR⟩ := id h
  refine j_aload_n C d_Model_stands_0 rfl ?_
  refine j_gets C d_Model_stands_1 fl_Model_13 cl_Model rfl (by assumption) rfl hp0 (fun t1 => ?_)
  refine j_iload_n C d_Model_stands_4 rfl ?_
  refine j_iald C i d_Model_stands_5 (by assumption) hx hi (by decide) ?_
  refine j_aload_n C d_Model_stands_6 rfl ?_
  refine j_gets C d_Model_stands_7 fl_Model_13 cl_Model rfl (by assumption) rfl hp0 (fun t7 => ?_)
  refine j_iload_n C d_Model_stands_10 rfl ?_
  refine j_iald C j d_Model_stands_11 (by assumption) hy hj (by decide) ?_
  refine j_icmp_lt (tgt := 45) C d_Model_stands_12 (by decide) (fun c12 => ?_) (fun c12 => ?_)
  · skip
    rw [(hR i hi).2.1, (hR j hj).2.1] at c12
    refine j_iconst (v := 1) C d_Model_stands_45 (by decide) ?_
    refine j_goto (tgt := 50) C d_Model_stands_46 (by decide) ?_
    refine j_iret C E rfl (by first | rfl | exact nar_bI _) d_Model_stands_50 ?_
    refine ⟨?_, rfl, rfl, rfl⟩
    first | (simp [befM, befF, bI, c12]; done) | (simp [befM, befF, bI, c12, c27]; done) | simp [befM, befF, bI, c12, c27, c42]
  · skip
    rw [(hR i hi).2.1, (hR j hj).2.1] at c12
    refine j_aload_n C d_Model_stands_15 rfl ?_
    refine j_gets C d_Model_stands_16 fl_Model_13 cl_Model rfl (by assumption) rfl hp0 (fun t16 => ?_)
    refine j_iload_n C d_Model_stands_19 rfl ?_
    refine j_iald C i d_Model_stands_20 (by assumption) hx hi (by decide) ?_
    refine j_aload_n C d_Model_stands_21 rfl ?_
    refine j_gets C d_Model_stands_22 fl_Model_13 cl_Model rfl (by assumption) rfl hp0 (fun t22 => ?_)
    refine j_iload_n C d_Model_stands_25 rfl ?_
    refine j_iald C j d_Model_stands_26 (by assumption) hy hj (by decide) ?_
    refine j_icmp_ne (tgt := 49) C d_Model_stands_27 (by decide) (fun c27 => ?_) (fun c27 => ?_)
    · skip
      rw [(hR i hi).2.1, (hR j hj).2.1] at c27
      refine j_iconst (v := 0) C d_Model_stands_49 (by decide) ?_
      refine j_iret C E rfl (by first | rfl | exact nar_bI _) d_Model_stands_50 ?_
      refine ⟨?_, rfl, rfl, rfl⟩
      first | (simp [befM, befF, bI, c12]; done) | (simp [befM, befF, bI, c12, c27]; done) | simp [befM, befF, bI, c12, c27, c42]
    · skip
      rw [(hR i hi).2.1, (hR j hj).2.1] at c27
      refine j_aload_n C d_Model_stands_30 rfl ?_
      refine j_gets C d_Model_stands_31 fl_Model_17 cl_Model rfl (by assumption) rfl ha0 (fun t31 => ?_)
      refine j_iload_n C d_Model_stands_34 rfl ?_
      refine j_iald C i d_Model_stands_35 (by assumption) hx hi (by decide) ?_
      refine j_aload_n C d_Model_stands_36 rfl ?_
      refine j_gets C d_Model_stands_37 fl_Model_17 cl_Model rfl (by assumption) rfl ha0 (fun t37 => ?_)
      refine j_iload_n C d_Model_stands_40 rfl ?_
      refine j_iald C j d_Model_stands_41 (by assumption) hy hj (by decide) ?_
      refine j_icmp_ge (tgt := 49) C d_Model_stands_42 (by decide) (fun c42 => ?_) (fun c42 => ?_)
      · skip
        rw [(hR i hi).2.2.1, (hR j hj).2.2.1] at c42
        refine j_iconst (v := 0) C d_Model_stands_49 (by decide) ?_
        refine j_iret C E rfl (by first | rfl | exact nar_bI _) d_Model_stands_50 ?_
        refine ⟨?_, rfl, rfl, rfl⟩
        first | (simp [befM, befF, bI, c12]; done) | (simp [befM, befF, bI, c12, c27]; done) | simp [befM, befF, bI, c12, c27, c42]
      · skip
        rw [(hR i hi).2.2.1, (hR j hj).2.2.1] at c42
        refine j_iconst (v := 1) C d_Model_stands_45 (by decide) ?_
        refine j_goto (tgt := 50) C d_Model_stands_46 (by decide) ?_
        refine j_iret C E rfl (by first | rfl | exact nar_bI _) d_Model_stands_50 ?_
        refine ⟨?_, rfl, rfl, rfl⟩
        first | (simp [befM, befF, bI, c12]; done) | (simp [befM, befF, bI, c12, c27]; done) | simp [befM, befF, bI, c12, c27, c42]

def isOfB (M : Mt) (p : Int32) (i : Nat) : Bool := qdM M i && (decide (p = -1) || decide (p ∈ tkM M i))
set_option maxHeartbeats 4000000 in
set_option maxRecDepth 100000 in
theorem c_Model_isOf (l : Launch) (D : jD) (N0 : Nat) {tt : jT} {mi : jI} {mr : jR} {md aq ap aa am ak : Nat} {M : Mt} (h : MR tt mi mr md aq ap aa am ak M) (hlen : ∀ i, i < 200 → (tkM M i).length ≤ 8) {i : Nat} (hi : i < 200) {x : Int32} (hx : x = nI i) (p : Int32) : Ct l D N0 1 0 0 y_Model_isOf b_Model_isOf 3 (some .boolean) [va_rf (some md), .int x, .int p] tt mi mr (pI (bI (isOfB M p i)) tt mi mr) := by
  refine Ct.of "OrderDeskModel" (by decide +kernel) rfl (by simp [cat_rf, cat_int]) (Nat.le_of_ble_eq_true rfl) (fun X hXl hXd hXn C E I hWT => ?_)
  subst hXl hXd hXn
  obtain ⟨⟨tmd, hq0, hp0, ha0, hm0, hk0⟩, ⟨tq, tp, ta, tm, tk, npa, npm, nam⟩, hN, hR⟩ := id h
  refine j_aload_n C d_Model_isOf_0 rfl ?_
  refine j_gets C d_Model_isOf_1 fl_Model_7 cl_Model rfl (by assumption) rfl hq0 (fun t1 => ?_)
  refine j_iload_n C d_Model_isOf_4 rfl ?_
  refine j_zald C i d_Model_isOf_5 (by assumption) hx hi (by decide) ?_
  refine j_if_eq (tgt := 27) C d_Model_isOf_6 (by decide) (fun c6 => ?_) (fun c6 => ?_)
  · skip
    rw [(hR i hi).1, bI_0] at c6
    refine j_iconst (v := 0) C d_Model_isOf_27 (by decide) ?_
    refine j_iret C E rfl (by first | rfl | exact nar_bI _) d_Model_isOf_28 ?_
    refine ⟨?_, rfl, rfl, rfl⟩
    first | (simp [isOfB, bI, c6]; done) | (simp [isOfB, bI, c6, c11]; done) | (rw [decide_eq_false_iff_not] at c20; simp [isOfB, bI, c6, c11, c20]; done) | (rw [decide_eq_true_eq] at c20; simp [isOfB, bI, c6, c11, c20])
  · skip
    rw [(hR i hi).1, bI_0, Bool.not_eq_false] at c6
    refine j_iload_n C d_Model_isOf_9 rfl ?_
    refine j_iconst (v := (-1)) C d_Model_isOf_10 (by decide) ?_
    refine j_icmp_eq (tgt := 23) C d_Model_isOf_11 (by decide) (fun c11 => ?_) (fun c11 => ?_)
    · skip
      refine j_iconst (v := 1) C d_Model_isOf_23 (by decide) ?_
      refine j_goto (tgt := 28) C d_Model_isOf_24 (by decide) ?_
      refine j_iret C E rfl (by first | rfl | exact nar_bI _) d_Model_isOf_28 ?_
      refine ⟨?_, rfl, rfl, rfl⟩
      first | (simp [isOfB, bI, c6]; done) | (simp [isOfB, bI, c6, c11]; done) | (rw [decide_eq_false_iff_not] at c20; simp [isOfB, bI, c6, c11, c20]; done) | (rw [decide_eq_true_eq] at c20; simp [isOfB, bI, c6, c11, c20])
    · skip
      refine j_aload_n C d_Model_isOf_14 rfl ?_
      refine j_iload_n C d_Model_isOf_15 rfl ?_
      refine j_iload_n C d_Model_isOf_16 rfl ?_
      refine j_callVi C [.int x, .int p] d_Model_isOf_17 ml_Model_34 mv_Model_takesFrom k_Model_takesFrom ⟨_, _, rfl⟩ tmd (c_Model_takesFrom _ _ _ h hlen hi hx p) (by decide) (by decide) rfl (Nat.le_of_ble_eq_true rfl) (Nat.le_of_ble_eq_true rfl) rfl (by simp [cat_rf, cat_int]) ?_
      refine j_if_eq (tgt := 27) C d_Model_isOf_20 (by decide) (fun c20 => ?_) (fun c20 => ?_)
      · skip
        rw [bI_0] at c20
        refine j_iconst (v := 0) C d_Model_isOf_27 (by decide) ?_
        refine j_iret C E rfl (by first | rfl | exact nar_bI _) d_Model_isOf_28 ?_
        refine ⟨?_, rfl, rfl, rfl⟩
        first | (simp [isOfB, bI, c6]; done) | (simp [isOfB, bI, c6, c11]; done) | (rw [decide_eq_false_iff_not] at c20; simp [isOfB, bI, c6, c11, c20]; done) | (rw [decide_eq_true_eq] at c20; simp [isOfB, bI, c6, c11, c20])
      · skip
        rw [bI_0, Bool.not_eq_false] at c20
        refine j_iconst (v := 1) C d_Model_isOf_23 (by decide) ?_
        refine j_goto (tgt := 28) C d_Model_isOf_24 (by decide) ?_
        refine j_iret C E rfl (by first | rfl | exact nar_bI _) d_Model_isOf_28 ?_
        refine ⟨?_, rfl, rfl, rfl⟩
        first | (simp [isOfB, bI, c6]; done) | (simp [isOfB, bI, c6, c11]; done) | (rw [decide_eq_false_iff_not] at c20; simp [isOfB, bI, c6, c11, c20]; done) | (rw [decide_eq_true_eq] at c20; simp [isOfB, bI, c6, c11, c20])
end
section
/-! THE MODEL's METHODS THAT CHANGE IT -/
section MRL
variable {tt : jT} {mi : jI} {mr : jR} {md aq ap aa am ak : Nat} {M : Mt}
theorem MR.ne (h : MR tt mi mr md aq ap aa am ak M) : (md ≠ aq ∧ md ≠ ap ∧ md ≠ aa ∧ md ≠ am ∧ md ≠ ak) ∧ (aq ≠ ap ∧ aq ≠ aa ∧ aq ≠ am ∧ aq ≠ ak) ∧ (ak ≠ ap ∧ ak ≠ aa ∧ ak ≠ am) := by
  obtain ⟨⟨tmd, -⟩, ⟨tq, tp, ta, tm, tk, -⟩, -⟩ := h
  exact ⟨⟨kne tmd tq (by simp), kne tmd tp (by simp), kne tmd ta (by simp), kne tmd tm (by simp), kne tmd tk (by simp)⟩, ⟨kne tq tp (by simp), kne tq ta (by simp), kne tq tm (by simp), kne tq tk (by simp)⟩, ⟨kne tk tp (by simp), kne tk ta (by simp), kne tk tm (by simp)⟩⟩
theorem MR.more (h : MR tt mi mr md aq ap aa am ak M) (hlen : ∀ i, i < 200 → (tkM M i).length ≤ 8) {i : Nat} (hi : i < 200) (hc : (tkM M i).length < 8) (p : Int32) : MR tt (up2 (up2 mi ak (8 * i + (tkM M i).length) p) am i (nI ((tkM M i).length + 1))) mr md aq ap aa am ak (moreM M i p) := by
  obtain ⟨⟨n1, n2, n3, n4, n5⟩, ⟨n6, n7, n8, n9⟩, n10, n11, n12⟩ := h.ne
  obtain ⟨a, b, c, d⟩ := h
  obtain ⟨-, -, -, -, -, npa, npm, nam⟩ := id b
  refine ⟨a, b, by rw [up2_off _ _ _ _ n4, up2_off _ _ _ _ n5]; exact c, fun j hj => ?_⟩
  obtain ⟨d1, d2, d3, d4, d5⟩ := d j hj
  refine ⟨by rw [up2_off _ _ _ _ n8, up2_off _ _ _ _ n9]; exact d1, by rw [up2_off _ _ _ _ npm, up2_off _ _ _ _ (Ne.symm n10)]; exact d2, by rw [up2_off _ _ _ _ nam, up2_off _ _ _ _ (Ne.symm n11)]; exact d3, ?_, fun k q hk => ?_⟩
  · by_cases z : j = i
    · subst z
      rw [up2_ap, if_pos ⟨rfl, rfl⟩]
      simp [moreM, rowTo, tkM, va_up]
    · have : tkM (moreM M i p) j = tkM M j := by simp [moreM, rowTo, tkM, va_up, z]
      rw [this, up2_ap, if_neg (fun w => z w.2), up2_off _ _ _ _ (Ne.symm n12)]; exact d4
  · rw [up2_off _ _ _ _ n12, up2_ap]
    by_cases z : j = i
    · subst z
      have e1 : tkM (moreM M j p) j = tkM M j ++ [p] := by simp [moreM, rowTo, tkM, va_up]
      rw [e1] at hk
      by_cases w : k = (tkM M j).length
      · rw [w] at hk ⊢
        rw [if_pos ⟨rfl, rfl⟩]
        simpa using hk
      · rw [if_neg (fun v => w (by omega))]
        have hkl := (List.getElem?_eq_some_iff.mp hk).1
        rw [List.length_append, List.length_singleton] at hkl
        rw [List.getElem?_append_left (by omega)] at hk
        exact d5 k q hk
    · have e1 : tkM (moreM M i p) j = tkM M j := by simp [moreM, rowTo, tkM, va_up, z]
      rw [e1] at hk
      have hkl := (List.getElem?_eq_some_iff.mp hk).1
      have := hlen j hj
      rw [if_neg (fun v => z (by omega))]
      exact d5 k q hk
theorem MR.arrive (h : MR tt mi mr md aq ap aa am ak M) {i : Nat} (hi : i < 200) (p : Int32) : MR tt (up2 (up2 (up2 (up2 mi aq i 1) ap i p) md 5 (nI (nM M + 1))) aa i (nI (nM M + 1))) mr md aq ap aa am ak (comeM M i p) := by
  obtain ⟨⟨n1, n2, n3, n4, n5⟩, ⟨n6, n7, n8, n9⟩, n10, n11, n12⟩ := h.ne
  obtain ⟨a, b, c, d⟩ := h
  obtain ⟨-, -, -, -, -, npa, npm, nam⟩ := id b
  refine ⟨a, b, ?_, fun j hj => ?_⟩
  · rw [up2_off _ _ _ _ n3, up2_ap, if_pos ⟨rfl, rfl⟩]; rfl
  · obtain ⟨d1, d2, d3, d4, d5⟩ := d j hj
    refine ⟨?_, ?_, ?_, ?_, fun k q hk => ?_⟩
    · rw [up2_off _ _ _ _ n7, up2_off _ _ _ _ (Ne.symm n1), up2_off _ _ _ _ n6, up2_ap]
      by_cases z : j = i
      · rw [if_pos ⟨rfl, z⟩]; simp [comeM, qdM, va_up, z, bI]
      · rw [if_neg (fun w => z w.2), d1]; simp [comeM, qdM, va_up, z]
    · rw [up2_off _ _ _ _ npa, up2_off _ _ _ _ (Ne.symm n2), up2_ap]
      by_cases z : j = i
      · rw [if_pos ⟨rfl, z⟩]; simp [comeM, prM, va_up, z]
      · rw [if_neg (fun w => z w.2), up2_off _ _ _ _ (Ne.symm n6), d2]; simp [comeM, prM, va_up, z]
    · rw [up2_ap]
      by_cases z : j = i
      · rw [if_pos ⟨rfl, z⟩]; simp [comeM, arM, va_up, z]
      · rw [if_neg (fun w => z w.2), up2_off _ _ _ _ (Ne.symm n3), up2_off _ _ _ _ (Ne.symm npa), up2_off _ _ _ _ (Ne.symm n7), d3]; simp [comeM, arM, va_up, z]
    · rw [up2_off _ _ _ _ (Ne.symm nam), up2_off _ _ _ _ (Ne.symm n4), up2_off _ _ _ _ (Ne.symm npm), up2_off _ _ _ _ (Ne.symm n8)]; exact d4
    · rw [up2_off _ _ _ _ n11, up2_off _ _ _ _ (Ne.symm n5), up2_off _ _ _ _ n10, up2_off _ _ _ _ (Ne.symm n9)]; exact d5 k q hk
theorem MR.leave (h : MR tt mi mr md aq ap aa am ak M) {i : Nat} (hi : i < 200) : MR tt (up2 (up2 mi aq i 0) am i 0) mr md aq ap aa am ak (rowTo (exitM M i) i []) := by
  obtain ⟨⟨n1, n2, n3, n4, n5⟩, ⟨n6, n7, n8, n9⟩, n10, n11, n12⟩ := h.ne
  obtain ⟨a, b, c, d⟩ := h
  obtain ⟨-, -, -, -, -, npa, npm, nam⟩ := id b
  refine ⟨a, b, by rw [up2_off _ _ _ _ n4, up2_off _ _ _ _ n1]; exact c, fun j hj => ?_⟩
  obtain ⟨d1, d2, d3, d4, d5⟩ := d j hj
  refine ⟨?_, by rw [up2_off _ _ _ _ npm, up2_off _ _ _ _ (Ne.symm n6)]; exact d2, by rw [up2_off _ _ _ _ nam, up2_off _ _ _ _ (Ne.symm n7)]; exact d3, ?_, fun k q hk => ?_⟩
  · rw [up2_off _ _ _ _ n8, up2_ap]
    by_cases z : j = i
    · rw [if_pos ⟨rfl, z⟩]; simp [rowTo, exitM, qdM, va_up, z, bI]
    · rw [if_neg (fun w => z w.2), d1]; simp [rowTo, exitM, qdM, va_up, z]
  · rw [up2_ap]
    by_cases z : j = i
    · rw [if_pos ⟨rfl, z⟩]
      have : tkM (rowTo (exitM M i) i []) j = [] := by simp [rowTo, tkM, va_up, z]
      rw [this]; rfl
    · rw [if_neg (fun w => z w.2), up2_off _ _ _ _ (Ne.symm n8), d4]
      simp [rowTo, exitM, tkM, va_up, z]
  · by_cases z : j = i
    · have : tkM (rowTo (exitM M i) i []) j = [] := by simp [rowTo, tkM, va_up, z]
      rw [this] at hk; simp at hk
    · have : tkM (rowTo (exitM M i) i []) j = tkM M j := by simp [rowTo, exitM, tkM, va_up, z]
      rw [this] at hk
      rw [up2_off _ _ _ _ n12, up2_off _ _ _ _ (Ne.symm n9)]; exact d5 k q hk
theorem MR.part (h : MR tt mi mr md aq ap aa am ak M) (hlen : ∀ i, i < 200 → (tkM M i).length ≤ 8) {i : Nat} (hi : i < 200) {A B : List Int32} {p : Int32} (e : tkM M i = A ++ p :: B) (hpA : p ∉ A) {mi2 : jI} (h1 : ∀ b, b ≠ ak → mi2 b = up2 mi am i (nI (A.length + B.length)) b) (h2 : ∀ y, mi2 ak y = if 8 * i + A.length ≤ y ∧ y < 8 * i + (A.length + B.length) then mi ak (y + 1) else mi ak y) : MR tt mi2 mr md aq ap aa am ak (rowTo M i ((tkM M i).erase p)) := by
  obtain ⟨⟨n1, n2, n3, n4, n5⟩, ⟨n6, n7, n8, n9⟩, n10, n11, n12⟩ := h.ne
  obtain ⟨a, b, c, d⟩ := h
  obtain ⟨-, -, -, -, -, npa, npm, nam⟩ := id b
  have he : (tkM M i).erase p = A ++ B := by rw [e, List.erase_append_right _ hpA, List.erase_cons_head]
  have hl := hlen i hi
  rw [e] at hl
  simp at hl
  refine ⟨a, b, by rw [h1 md n5, up2_off _ _ _ _ n4]; exact c, fun j hj => ?_⟩
  obtain ⟨d1, d2, d3, d4, d5⟩ := d j hj
  refine ⟨by rw [h1 aq n9, up2_off _ _ _ _ n8]; exact d1, by rw [h1 ap (Ne.symm n10), up2_off _ _ _ _ npm]; exact d2, by rw [h1 aa (Ne.symm n11), up2_off _ _ _ _ nam]; exact d3, ?_, fun k q hk => ?_⟩
  · rw [h1 am (Ne.symm n12), up2_ap]
    by_cases z : j = i
    · rw [if_pos ⟨rfl, z⟩]
      have : tkM (rowTo M i ((tkM M i).erase p)) j = A ++ B := by rw [he]; simp [rowTo, tkM, va_up, z]
      rw [this, List.length_append]
    · have : tkM (rowTo M i ((tkM M i).erase p)) j = tkM M j := by simp [rowTo, tkM, va_up, z]
      rw [if_neg (fun w => z w.2), this]; exact d4
  · rw [h2]
    by_cases z : j = i
    · subst z
      have e1 : tkM (rowTo M j ((tkM M j).erase p)) j = A ++ B := by rw [he]; simp [rowTo, tkM, va_up]
      rw [e1] at hk
      have hkl := (List.getElem?_eq_some_iff.mp hk).1
      rw [List.length_append] at hkl
      by_cases w : k < A.length
      · rw [if_neg (by omega)]
        apply d5 k q
        rw [e, List.getElem?_append_left w]
        rw [List.getElem?_append_left w] at hk
        exact hk
      · rw [if_pos (by omega), show 8 * j + k + 1 = 8 * j + (k + 1) by omega]
        apply d5 (k + 1) q
        rw [e, List.getElem?_append_right (by omega), show k + 1 - A.length = (k - A.length) + 1 by omega, List.getElem?_cons_succ]
        rw [List.getElem?_append_right (by omega)] at hk
        exact hk
    · have e1 : tkM (rowTo M i ((tkM M i).erase p)) j = tkM M j := by simp [rowTo, tkM, va_up, z]
      rw [e1] at hk
      have hkl := (List.getElem?_eq_some_iff.mp hk).1
      have := hlen j hj
      rw [if_neg (by omega)]
      exact d5 k q hk
end MRL

set_option maxHeartbeats 4000000 in
set_option maxRecDepth 100000 in
theorem c_Model_more (l : Launch) (D : jD) (N0 : Nat) {tt : jT} {mi : jI} {mr : jR} {md aq ap aa am ak : Nat} {M : Mt} (h : MR tt mi mr md aq ap aa am ak M) (hlen : ∀ i, i < 200 → (tkM M i).length ≤ 8) {i : Nat} (hi : i < 200) {x : Int32} (hx : x = nI i) (p : Int32) : Ct l D N0 1 0 0 y_Model_more b_Model_more 3 (some .boolean) [va_rf (some md), .int x, .int p] tt mi mr (fun v tt' mi' mr' => tt' = tt ∧ FrD tt mi mr mi' mr' ∧ v = some (.int (bI (posF p && moreB M i p))) ∧ MR tt mi' mr' md aq ap aa am ak (if (posF p && moreB M i p) = true then moreM M i p else M)) := by
  refine Ct.of "OrderDeskModel" (by decide +kernel) rfl (by simp [cat_rf, cat_int]) (Nat.le_of_ble_eq_true rfl) (fun X hXl hXd hXn C E I hWT => ?_)
  subst hXl hXd hXn
  obtain ⟨⟨tmd, hq0, hp0, ha0, hm0, hk0⟩, ⟨tq, tp, ta, tm, tk, npa, npm, nam⟩, hN, hR⟩ := id h
  refine j_iload_n C d_Model_more_0 rfl ?_
  refine j_callSi C [.int p] d_Model_more_1 ml_Model_31 ms_Model_isPosition k_Model_isPosition (c_Model_isPosition _ _ _ p) (by decide) (by decide) rfl (Nat.le_of_ble_eq_true rfl) (Nat.le_of_ble_eq_true rfl) rfl (by simp [cat_rf, cat_int]) ?_
  refine j_if_eq (tgt := 27) C d_Model_more_4 (by decide) (fun c4 => ?_) (fun c4 => ?_)
  · skip
    rw [bI_0, posG_eq] at c4
    refine j_iconst (v := 0) C d_Model_more_27 (by decide) ?_
    refine j_iret C E rfl (by first | rfl | exact nar_bI _) d_Model_more_28 ?_
    have hb : (posF p && moreB M i p) = false := by first | (simp [c4]; done) | (simp [moreB, c15]; done) | simp [moreB, c24]
    exact ⟨rfl, FrD.refl, by rw [hb]; rfl, by rw [hb]; exact h⟩
  · skip
    rw [bI_0, Bool.not_eq_false, posG_eq] at c4
    refine j_aload_n C d_Model_more_7 rfl ?_
    refine j_gets C d_Model_more_8 fl_Model_20 cl_Model rfl (by assumption) rfl hm0 (fun t8 => ?_)
    refine j_iload_n C d_Model_more_11 rfl ?_
    refine j_iald C i d_Model_more_12 (by assumption) hx hi (by decide) ?_
    refine j_bipush (v := 8) C d_Model_more_13 (by decide) ?_
    refine j_icmp_eq (tgt := 27) C d_Model_more_15 (by decide) (fun c15 => ?_) (fun c15 => ?_)
    · skip
      rw [(hR i hi).2.2.2.1, show (8 : Int32) = nI 8 from rfl, nI_eq (by have := hlen i hi; omega) (by omega)] at c15
      refine j_iconst (v := 0) C d_Model_more_27 (by decide) ?_
      refine j_iret C E rfl (by first | rfl | exact nar_bI _) d_Model_more_28 ?_
      have hb : (posF p && moreB M i p) = false := by first | (simp [c4]; done) | (simp [moreB, c15]; done) | simp [moreB, c24]
      exact ⟨rfl, FrD.refl, by rw [hb]; rfl, by rw [hb]; exact h⟩
    · skip
      rw [(hR i hi).2.2.2.1, show (8 : Int32) = nI 8 from rfl, nI_eq (by have := hlen i hi; omega) (by omega)] at c15
      refine j_aload_n C d_Model_more_18 rfl ?_
      refine j_iload_n C d_Model_more_19 rfl ?_
      refine j_iload_n C d_Model_more_20 rfl ?_
      refine j_callVi C [.int x, .int p] d_Model_more_21 ml_Model_34 mv_Model_takesFrom k_Model_takesFrom ⟨_, _, rfl⟩ tmd (c_Model_takesFrom _ _ _ h hlen hi hx p) (by decide) (by decide) rfl (Nat.le_of_ble_eq_true rfl) (Nat.le_of_ble_eq_true rfl) rfl (by simp [cat_rf, cat_int]) ?_
      refine j_if_eq (tgt := 29) C d_Model_more_24 (by decide) (fun c24 => ?_) (fun c24 => ?_)
      · skip
        rw [bI_0, decide_eq_false_iff_not] at c24
        refine j_aload_n C d_Model_more_29 rfl ?_
        refine j_gets C d_Model_more_30 fl_Model_23 cl_Model rfl (by assumption) rfl hk0 (fun t30 => ?_)
        refine j_bipush (v := 8) C d_Model_more_33 (by decide) ?_
        refine j_iload_n C d_Model_more_35 rfl ?_
        refine j_imul C d_Model_more_36 ?_
        refine j_aload_n C d_Model_more_37 rfl ?_
        refine j_gets C d_Model_more_38 fl_Model_20 cl_Model rfl (by assumption) rfl hm0 (fun t38 => ?_)
        refine j_iload_n C d_Model_more_41 rfl ?_
        refine j_iald C i d_Model_more_42 (by assumption) hx hi (by decide) ?_
        refine j_iadd C d_Model_more_43 ?_
        refine j_iload_n C d_Model_more_44 rfl ?_
        refine j_iast C (8 * i + (tkM M i).length) d_Model_more_45 (by assumption) (by rw [(hR i hi).2.2.2.1, hx]; exact m8 _ _) (by have := hlen i hi; omega) (by decide) (fun mi45 hm45 => ?_)
        refine j_aload_n C d_Model_more_46 rfl ?_
        refine j_gets C d_Model_more_47 fl_Model_20 cl_Model rfl (by assumption) rfl hm0 (fun t47 => ?_)
        refine j_iload_n C d_Model_more_50 rfl ?_
        refine j_aload_n C d_Model_more_51 rfl ?_
        refine j_gets C d_Model_more_52 fl_Model_20 cl_Model rfl (by assumption) rfl hm0 (fun t52 => ?_)
        refine j_iload_n C d_Model_more_55 rfl ?_
        refine j_iald C i d_Model_more_56 (by assumption) hx hi (by decide) ?_
        refine j_iconst (v := 1) C d_Model_more_57 (by decide) ?_
        refine j_iadd C d_Model_more_58 ?_
        refine j_iast C i d_Model_more_59 (by assumption) hx hi (by decide) (fun mi59 hm59 => ?_)
        refine j_iconst (v := 1) C d_Model_more_60 (by decide) ?_
        refine j_iret C E rfl (by first | rfl | exact nar_bI _) d_Model_more_61 ?_
        have hb : (posF p && moreB M i p) = true := by simp [c4, moreB, c15, c24]
        have n12 := h.ne.2.2.2.2
        have e59 : mi59 = up2 (up2 mi ak (8 * i + (tkM M i).length) p) am i (nI ((tkM M i).length + 1)) := by rw [hm59, hm45, up2_off _ _ _ _ (Ne.symm n12), (hR i hi).2.2.2.1, nI_1]
        rw [e59]
        refine ⟨rfl, (FrD.puti tk rfl).trans (FrD.puti tm rfl), by rw [hb]; rfl, ?_⟩
        rw [if_pos hb]
        exact h.more hlen hi (by have := hlen i hi; omega) p
      · skip
        rw [bI_0, Bool.not_eq_false, decide_eq_true_eq] at c24
        refine j_iconst (v := 0) C d_Model_more_27 (by decide) ?_
        refine j_iret C E rfl (by first | rfl | exact nar_bI _) d_Model_more_28 ?_
        have hb : (posF p && moreB M i p) = false := by first | (simp [c4]; done) | (simp [moreB, c15]; done) | simp [moreB, c24]
        exact ⟨rfl, FrD.refl, by rw [hb]; rfl, by rw [hb]; exact h⟩

set_option maxHeartbeats 4000000 in
set_option maxRecDepth 100000 in
theorem c_Model_take (l : Launch) (D : jD) (N0 : Nat) {tt : jT} {mi : jI} {mr : jR} {md aq ap aa am ak : Nat} {M : Mt} (h : MR tt mi mr md aq ap aa am ak M) (hlen : ∀ i, i < 200 → (tkM M i).length ≤ 8) (x p : Int32) : Ct l D N0 2 0 0 y_Model_take b_Model_take 3 (some .boolean) [va_rf (some md), .int x, .int p] tt mi mr (fun v tt' mi' mr' => tt' = tt ∧ FrD tt mi mr mi' mr' ∧ v = some (.int (bI (takeB M x p))) ∧ MR tt mi' mr' md aq ap aa am ak (takeM M x p)) := by
  refine Ct.of "OrderDeskModel" (by decide +kernel) rfl (by simp [cat_rf, cat_int]) (Nat.le_of_ble_eq_true rfl) (fun X hXl hXd hXn C E I hWT => ?_)
  subst hXl hXd hXn
  obtain ⟨⟨tmd, hq0, hp0, ha0, hm0, hk0⟩, ⟨tq, tp, ta, tm, tk, npa, npm, nam⟩, hN, hR⟩ := id h
  refine j_iload_n C d_Model_take_0 rfl ?_
  refine j_callSi C [.int x] d_Model_take_1 ml_Model_26 ms_Model_isItem k_Model_isItem (c_Model_isItem _ _ _ x) (by decide) (by decide) rfl (Nat.le_of_ble_eq_true rfl) (Nat.le_of_ble_eq_true rfl) rfl (by simp [cat_rf, cat_int]) ?_
  refine j_if_eq (tgt := 29) C d_Model_take_4 (by decide) (fun c4 => ?_) (fun c4 => ?_)
  · skip
    rw [bI_0] at c4
    refine j_iconst (v := 0) C d_Model_take_29 (by decide) ?_
    refine j_iret C E rfl (by first | rfl | exact nar_bI _) d_Model_take_30 ?_
    have hb : takeB M x p = false := by first | (simp [takeB, c4]; done) | simp [takeB, c13]
    exact ⟨rfl, FrD.refl, by rw [hb]; rfl, by simp only [takeM, hb]; exact h⟩
  · skip
    rw [bI_0, Bool.not_eq_false] at c4
    obtain ⟨hi, hix⟩ : ixN x < 200 ∧ x = nI (ixN x) := itemF_spec c4
    refine j_aload_n C d_Model_take_7 rfl ?_
    refine j_gets C d_Model_take_8 fl_Model_7 cl_Model rfl (by assumption) rfl hq0 (fun t8 => ?_)
    refine j_iload_n C d_Model_take_11 rfl ?_
    refine j_zald C (ixN x) d_Model_take_12 (by assumption) hix hi (by decide) ?_
    refine j_if_ne (tgt := 29) C d_Model_take_13 (by decide) (fun c13 => ?_) (fun c13 => ?_)
    · skip
      rw [(hR _ hi).1, bI_0, Bool.not_eq_false] at c13
      refine j_iconst (v := 0) C d_Model_take_29 (by decide) ?_
      refine j_iret C E rfl (by first | rfl | exact nar_bI _) d_Model_take_30 ?_
      have hb : takeB M x p = false := by first | (simp [takeB, c4]; done) | simp [takeB, c13]
      exact ⟨rfl, FrD.refl, by rw [hb]; rfl, by simp only [takeM, hb]; exact h⟩
    · skip
      rw [(hR _ hi).1] at c13
      replace c13 := bI_0.mp c13
      refine j_aload_n C d_Model_take_16 rfl ?_
      refine j_iload_n C d_Model_take_17 rfl ?_
      refine j_iload_n C d_Model_take_18 rfl ?_
      refine j_callV C [.int x, .int p] d_Model_take_19 ml_Model_38 mv_Model_more k_Model_more ⟨_, _, rfl⟩ tmd (c_Model_more _ _ _ h hlen hi hix p) (by decide) (by decide) rfl (Nat.le_of_ble_eq_true rfl) (Nat.le_of_ble_eq_true rfl) rfl (by simp [cat_rf, cat_int]) (fun v19 tt19 mi19 mr19 p19 => ?_)
      obtain ⟨rfl, hF1, rfl, hD⟩ := p19
      cases hmo : (posF p && moreB M (ixN x) p) with
      | false =>
        change J X _ mi19 mr19 0 0 22 _ [.int (bI false)]
        refine j_if_eq (tgt := 29) C d_Model_take_22 (by decide) (fun c22 => ?_) (fun c22 => ?_)
        · skip
          refine j_iconst (v := 0) C d_Model_take_29 (by decide) ?_
          refine j_iret C E rfl (by first | rfl | exact nar_bI _) d_Model_take_30 ?_
          have hb : takeB M x p = false := by rw [takeB, Bool.and_assoc, hmo]; simp
          exact ⟨rfl, hF1, by rw [hb]; rfl, by simp only [takeM, hb]; rw [hmo] at hD; exact hD⟩
        · skip
          exact absurd rfl c22
      | true =>
        change J X _ mi19 mr19 0 0 22 _ [.int (bI true)]
        refine j_if_eq (tgt := 29) C d_Model_take_22 (by decide) (fun c22 => ?_) (fun c22 => ?_)
        · skip
          exact absurd c22 (by decide)
        · skip
          refine j_iconst (v := 1) C d_Model_take_25 (by decide) ?_
          refine j_goto (tgt := 30) C d_Model_take_26 (by decide) ?_
          refine j_iret C E rfl (by first | rfl | exact nar_bI _) d_Model_take_30 ?_
          have hb : takeB M x p = true := by rw [takeB, Bool.and_assoc, hmo]; simp [c4, c13]
          exact ⟨rfl, hF1, by rw [hb]; rfl, by rw [takeM, if_pos hb]; rw [if_pos hmo] at hD; exact hD⟩

set_option maxHeartbeats 4000000 in
set_option maxRecDepth 100000 in
theorem c_Model_join (l : Launch) (D : jD) (N0 : Nat) {tt : jT} {mi : jI} {mr : jR} {md aq ap aa am ak : Nat} {M : Mt} (h : MR tt mi mr md aq ap aa am ak M) (hlen : ∀ i, i < 200 → (tkM M i).length ≤ 8) (x p : Int32) : Ct l D N0 2 0 0 y_Model_join b_Model_join 3 (some .boolean) [va_rf (some md), .int x, .int p] tt mi mr (fun v tt' mi' mr' => tt' = tt ∧ FrD tt mi mr mi' mr' ∧ v = some (.int (bI (joinB M x p))) ∧ MR tt mi' mr' md aq ap aa am ak (joinM M x p)) := by
  refine Ct.of "OrderDeskModel" (by decide +kernel) rfl (by simp [cat_rf, cat_int]) (Nat.le_of_ble_eq_true rfl) (fun X hXl hXd hXn C E I hWT => ?_)
  subst hXl hXd hXn
  obtain ⟨⟨tmd, hq0, hp0, ha0, hm0, hk0⟩, ⟨tq, tp, ta, tm, tk, npa, npm, nam⟩, hN, hR⟩ := id h
  refine j_aload_n C d_Model_join_0 rfl ?_
  refine j_iload_n C d_Model_join_1 rfl ?_
  refine j_callVi C [.int x] d_Model_join_2 ml_Model_41 mv_Model_isQueued k_Model_isQueued ⟨_, _, rfl⟩ tmd (c_Model_isQueued _ _ _ h x) (by decide) (by decide) rfl (Nat.le_of_ble_eq_true rfl) (Nat.le_of_ble_eq_true rfl) rfl (by simp [cat_rf, cat_int]) ?_
  refine j_if_eq (tgt := 21) C d_Model_join_5 (by decide) (fun c5 => ?_) (fun c5 => ?_)
  · skip
    rw [bI_0] at c5
    refine j_iconst (v := 0) C d_Model_join_21 (by decide) ?_
    refine j_iret C E rfl (by first | rfl | exact nar_bI _) d_Model_join_22 ?_
    have hb : joinB M x p = false := by simp [joinB, c5]
    exact ⟨rfl, FrD.refl, by rw [hb]; rfl, by simp only [joinM, hb]; exact h⟩
  · skip
    rw [bI_0, Bool.not_eq_false] at c5
    have hQ2 : itemF x = true ∧ qdM M (ixN x) = true := by simpa [isQ] using c5
    obtain ⟨hi, hix⟩ : ixN x < 200 ∧ x = nI (ixN x) := itemF_spec hQ2.1
    refine j_aload_n C d_Model_join_8 rfl ?_
    refine j_iload_n C d_Model_join_9 rfl ?_
    refine j_iload_n C d_Model_join_10 rfl ?_
    refine j_callV C [.int x, .int p] d_Model_join_11 ml_Model_38 mv_Model_more k_Model_more ⟨_, _, rfl⟩ tmd (c_Model_more _ _ _ h hlen hi hix p) (by decide) (by decide) rfl (Nat.le_of_ble_eq_true rfl) (Nat.le_of_ble_eq_true rfl) rfl (by simp [cat_rf, cat_int]) (fun v11 tt11 mi11 mr11 p11 => ?_)
    obtain ⟨rfl, hF1, rfl, hD⟩ := p11
    cases hmo : (posF p && moreB M (ixN x) p) with
    | false =>
      change J X _ mi11 mr11 0 0 14 _ [.int (bI false)]
      refine j_if_eq (tgt := 21) C d_Model_join_14 (by decide) (fun c14 => ?_) (fun c14 => ?_)
      · skip
        refine j_iconst (v := 0) C d_Model_join_21 (by decide) ?_
        refine j_iret C E rfl (by first | rfl | exact nar_bI _) d_Model_join_22 ?_
        have hb : joinB M x p = false := by rw [joinB, Bool.and_assoc, hmo]; simp
        exact ⟨rfl, hF1, by rw [hb]; rfl, by simp only [joinM, hb]; rw [hmo] at hD; exact hD⟩
      · skip
        exact absurd rfl c14
    | true =>
      change J X _ mi11 mr11 0 0 14 _ [.int (bI true)]
      refine j_if_eq (tgt := 21) C d_Model_join_14 (by decide) (fun c14 => ?_) (fun c14 => ?_)
      · skip
        exact absurd c14 (by decide)
      · skip
        refine j_iconst (v := 1) C d_Model_join_17 (by decide) ?_
        refine j_goto (tgt := 22) C d_Model_join_18 (by decide) ?_
        refine j_iret C E rfl (by first | rfl | exact nar_bI _) d_Model_join_22 ?_
        have hb : joinB M x p = true := by rw [joinB, Bool.and_assoc, hmo, c5]; rfl
        exact ⟨rfl, hF1, by rw [hb]; rfl, by rw [joinM, if_pos hb]; rw [if_pos hmo] at hD; exact hD⟩

set_option maxHeartbeats 4000000 in
set_option maxRecDepth 100000 in
theorem c_Model_arrive (l : Launch) (D : jD) (N0 : Nat) {tt : jT} {mi : jI} {mr : jR} {md aq ap aa am ak : Nat} {M : Mt} (h : MR tt mi mr md aq ap aa am ak M) {i : Nat} (hi : i < 200) {x : Int32} (hx : x = nI i) (p : Int32) : Ct l D N0 0 0 0 y_Model_arrive b_Model_arrive 3 (some .int) [va_rf (some md), .int x, .int p] tt mi mr (fun v tt' mi' mr' => tt' = tt ∧ FrD tt mi mr mi' mr' ∧ v = some (.int (nI (nM M + 1))) ∧ MR tt mi' mr' md aq ap aa am ak (comeM M i p)) := by
  refine Ct.of "OrderDeskModel" (by decide +kernel) rfl (by simp [cat_rf, cat_int]) (Nat.le_of_ble_eq_true rfl) (fun X hXl hXd hXn C E I hWT => ?_)
  subst hXl hXd hXn
  obtain ⟨⟨tmd, hq0, hp0, ha0, hm0, hk0⟩, ⟨tq, tp, ta, tm, tk, npa, npm, nam⟩, hN, hR⟩ := id h
  refine j_aload_n C d_Model_arrive_0 rfl ?_
  refine j_gets C d_Model_arrive_1 fl_Model_7 cl_Model rfl (by assumption) rfl hq0 (fun t1 => ?_)
  refine j_iload_n C d_Model_arrive_4 rfl ?_
  refine j_iconst (v := 1) C d_Model_arrive_5 (by decide) ?_
  refine j_zast C i d_Model_arrive_6 (by assumption) hx hi (by decide) rfl (fun mi6 hm6 => ?_)
  refine j_aload_n C d_Model_arrive_7 rfl ?_
  refine j_gets C d_Model_arrive_8 fl_Model_13 cl_Model rfl (by assumption) rfl hp0 (fun t8 => ?_)
  refine j_iload_n C d_Model_arrive_11 rfl ?_
  refine j_iload_n C d_Model_arrive_12 rfl ?_
  refine j_iast C i d_Model_arrive_13 (by assumption) hx hi (by decide) (fun mi13 hm13 => ?_)
  refine j_aload_n C d_Model_arrive_14 rfl ?_
  refine j_aload_n C d_Model_arrive_15 rfl ?_
  refine j_geti C d_Model_arrive_16 fl_Model_44 cl_Model (by assumption) rfl ?_
  refine j_iconst (v := 1) C d_Model_arrive_19 (by decide) ?_
  refine j_iadd C d_Model_arrive_20 ?_
  refine j_puti C d_Model_arrive_21 fl_Model_44 cl_Model (fun C T N h => by cases h; exact Or.inl rfl) (by assumption) (fun f g => ⟨rfl, Nat.le_of_ble_eq_true rfl⟩) rfl rfl (fun mi21 hm21 => ?_)
  refine j_aload_n C d_Model_arrive_24 rfl ?_
  refine j_gets C d_Model_arrive_25 fl_Model_17 cl_Model rfl (by assumption) rfl ha0 (fun t25 => ?_)
  refine j_iload_n C d_Model_arrive_28 rfl ?_
  refine j_aload_n C d_Model_arrive_29 rfl ?_
  refine j_geti C d_Model_arrive_30 fl_Model_44 cl_Model (by assumption) rfl ?_
  refine j_iast C i d_Model_arrive_33 (by assumption) hx hi (by decide) (fun mi33 hm33 => ?_)
  refine j_aload_n C d_Model_arrive_34 rfl ?_
  refine j_geti C d_Model_arrive_35 fl_Model_44 cl_Model (by assumption) rfl ?_
  refine j_iret C E rfl rfl d_Model_arrive_38 ?_
  obtain ⟨⟨n1, n2, n3, n4, n5⟩, ⟨n6, n7, n8, n9⟩, n10, n11, n12⟩ := h.ne
  have e21 : mi21 = up2 (up2 (up2 mi aq i 1) ap i p) md 5 (nI (nM M + 1)) := by rw [hm21, hm13, hm6, up2_off _ _ _ _ n2, up2_off _ _ _ _ n1, hN, nI_1]
  have e33 : mi33 = up2 (up2 (up2 (up2 mi aq i 1) ap i p) md 5 (nI (nM M + 1))) aa i (nI (nM M + 1)) := by rw [hm33, e21, up2_ap, if_pos ⟨rfl, rfl⟩]
  rw [e33]
  exact ⟨rfl, (FrD.puti tq rfl).trans ((FrD.puti tp rfl).trans ((FrD.puti tmd rfl).trans (FrD.puti ta rfl))), by rw [up2_off _ _ _ _ n3, up2_ap, if_pos ⟨rfl, rfl⟩], h.arrive hi p⟩

set_option maxHeartbeats 4000000 in
set_option maxRecDepth 100000 in
theorem c_Model_come (l : Launch) (D : jD) (N0 : Nat) {tt : jT} {mi : jI} {mr : jR} {md aq ap aa am ak : Nat} {M : Mt} (h : MR tt mi mr md aq ap aa am ak M) (x p : Int32) : Ct l D N0 1 0 0 y_Model_come b_Model_come 3 (some .int) [va_rf (some md), .int x, .int p] tt mi mr (fun v tt' mi' mr' => tt' = tt ∧ FrD tt mi mr mi' mr' ∧ v = some (.int (arrN M (comeB M x p))) ∧ MR tt mi' mr' md aq ap aa am ak (arrM M (comeB M x p) x p)) := by
  refine Ct.of "OrderDeskModel" (by decide +kernel) rfl (by simp [cat_rf, cat_int]) (Nat.le_of_ble_eq_true rfl) (fun X hXl hXd hXn C E I hWT => ?_)
  subst hXl hXd hXn
  obtain ⟨⟨tmd, hq0, hp0, ha0, hm0, hk0⟩, ⟨tq, tp, ta, tm, tk, npa, npm, nam⟩, hN, hR⟩ := id h
  refine j_iload_n C d_Model_come_0 rfl ?_
  refine j_callSi C [.int x] d_Model_come_1 ml_Model_26 ms_Model_isItem k_Model_isItem (c_Model_isItem _ _ _ x) (by decide) (by decide) rfl (Nat.le_of_ble_eq_true rfl) (Nat.le_of_ble_eq_true rfl) rfl (by simp [cat_rf, cat_int]) ?_
  refine j_if_eq (tgt := 32) C d_Model_come_4 (by decide) (fun c4 => ?_) (fun c4 => ?_)
  · skip
    rw [bI_0] at c4
    refine j_iconst (v := 0) C d_Model_come_32 (by decide) ?_
    refine j_iret C E rfl rfl d_Model_come_33 ?_
    have hb : comeB M x p = false := by first | (simp [comeB, c4]; done) | (simp [comeB, c13]; done) | simp [comeB, c20]
    exact ⟨rfl, FrD.refl, by rw [hb]; rfl, by rw [hb]; exact h⟩
  · skip
    rw [bI_0, Bool.not_eq_false] at c4
    obtain ⟨hi, hix⟩ : ixN x < 200 ∧ x = nI (ixN x) := itemF_spec c4
    refine j_aload_n C d_Model_come_7 rfl ?_
    refine j_gets C d_Model_come_8 fl_Model_7 cl_Model rfl (by assumption) rfl hq0 (fun t8 => ?_)
    refine j_iload_n C d_Model_come_11 rfl ?_
    refine j_zald C (ixN x) d_Model_come_12 (by assumption) hix hi (by decide) ?_
    refine j_if_ne (tgt := 32) C d_Model_come_13 (by decide) (fun c13 => ?_) (fun c13 => ?_)
    · skip
      rw [(hR _ hi).1, bI_0, Bool.not_eq_false] at c13
      refine j_iconst (v := 0) C d_Model_come_32 (by decide) ?_
      refine j_iret C E rfl rfl d_Model_come_33 ?_
      have hb : comeB M x p = false := by first | (simp [comeB, c4]; done) | (simp [comeB, c13]; done) | simp [comeB, c20]
      exact ⟨rfl, FrD.refl, by rw [hb]; rfl, by rw [hb]; exact h⟩
    · skip
      rw [(hR _ hi).1] at c13
      replace c13 := bI_0.mp c13
      refine j_iload_n C d_Model_come_16 rfl ?_
      refine j_callSi C [.int p] d_Model_come_17 ml_Model_48 ms_Model_isPriority k_Model_isPriority (c_Model_isPriority _ _ _ p) (by decide) (by decide) rfl (Nat.le_of_ble_eq_true rfl) (Nat.le_of_ble_eq_true rfl) rfl (by simp [cat_rf, cat_int]) ?_
      refine j_if_eq (tgt := 32) C d_Model_come_20 (by decide) (fun c20 => ?_) (fun c20 => ?_)
      · skip
        rw [bI_0] at c20
        refine j_iconst (v := 0) C d_Model_come_32 (by decide) ?_
        refine j_iret C E rfl rfl d_Model_come_33 ?_
        have hb : comeB M x p = false := by first | (simp [comeB, c4]; done) | (simp [comeB, c13]; done) | simp [comeB, c20]
        exact ⟨rfl, FrD.refl, by rw [hb]; rfl, by rw [hb]; exact h⟩
      · skip
        rw [bI_0, Bool.not_eq_false] at c20
        refine j_aload_n C d_Model_come_23 rfl ?_
        refine j_iload_n C d_Model_come_24 rfl ?_
        refine j_iload_n C d_Model_come_25 rfl ?_
        refine j_callV C [.int x, .int p] d_Model_come_26 ml_Model_51 mv_Model_arrive k_Model_arrive ⟨_, _, rfl⟩ tmd (c_Model_arrive _ _ _ h hi hix p) (by decide) (by decide) rfl (Nat.le_of_ble_eq_true rfl) (Nat.le_of_ble_eq_true rfl) rfl (by simp [cat_rf, cat_int]) (fun v26 tt26 mi26 mr26 p26 => ?_)
        obtain ⟨rfl, hF1, rfl, hD⟩ := p26
        change J X _ mi26 mr26 0 0 29 _ [.int _]
        refine j_goto (tgt := 33) C d_Model_come_29 (by decide) ?_
        refine j_iret C E rfl rfl d_Model_come_33 ?_
        have hb : comeB M x p = true := by simp [comeB, c4, c13, c20]
        exact ⟨rfl, hF1, by rw [hb]; rfl, by rw [hb]; exact hD⟩

set_option maxHeartbeats 4000000 in
set_option maxRecDepth 100000 in
theorem c_Model_again (l : Launch) (D : jD) (N0 : Nat) {tt : jT} {mi : jI} {mr : jR} {md aq ap aa am ak : Nat} {M : Mt} (h : MR tt mi mr md aq ap aa am ak M) (x p : Int32) : Ct l D N0 2 0 0 y_Model_again b_Model_again 3 (some .int) [va_rf (some md), .int x, .int p] tt mi mr (fun v tt' mi' mr' => tt' = tt ∧ FrD tt mi mr mi' mr' ∧ v = some (.int (arrN M (againB M x p))) ∧ MR tt mi' mr' md aq ap aa am ak (arrM M (againB M x p) x p)) := by
  refine Ct.of "OrderDeskModel" (by decide +kernel) rfl (by simp [cat_rf, cat_int]) (Nat.le_of_ble_eq_true rfl) (fun X hXl hXd hXn C E I hWT => ?_)
  subst hXl hXd hXn
  obtain ⟨⟨tmd, hq0, hp0, ha0, hm0, hk0⟩, ⟨tq, tp, ta, tm, tk, npa, npm, nam⟩, hN, hR⟩ := id h
  refine j_aload_n C d_Model_again_0 rfl ?_
  refine j_iload_n C d_Model_again_1 rfl ?_
  refine j_callVi C [.int x] d_Model_again_2 ml_Model_41 mv_Model_isQueued k_Model_isQueued ⟨_, _, rfl⟩ tmd (c_Model_isQueued _ _ _ h x) (by decide) (by decide) rfl (Nat.le_of_ble_eq_true rfl) (Nat.le_of_ble_eq_true rfl) rfl (by simp [cat_rf, cat_int]) ?_
  refine j_if_eq (tgt := 24) C d_Model_again_5 (by decide) (fun c5 => ?_) (fun c5 => ?_)
  · skip
    rw [bI_0] at c5
    refine j_iconst (v := 0) C d_Model_again_24 (by decide) ?_
    refine j_iret C E rfl rfl d_Model_again_25 ?_
    have hb : againB M x p = false := by first | (simp [againB, c5]; done) | simp [againB, c12]
    exact ⟨rfl, FrD.refl, by rw [hb]; rfl, by rw [hb]; exact h⟩
  · skip
    rw [bI_0, Bool.not_eq_false] at c5
    have hQ2 : itemF x = true ∧ qdM M (ixN x) = true := by simpa [isQ] using c5
    obtain ⟨hi, hix⟩ : ixN x < 200 ∧ x = nI (ixN x) := itemF_spec hQ2.1
    refine j_iload_n C d_Model_again_8 rfl ?_
    refine j_callSi C [.int p] d_Model_again_9 ml_Model_48 ms_Model_isPriority k_Model_isPriority (c_Model_isPriority _ _ _ p) (by decide) (by decide) rfl (Nat.le_of_ble_eq_true rfl) (Nat.le_of_ble_eq_true rfl) rfl (by simp [cat_rf, cat_int]) ?_
    refine j_if_eq (tgt := 24) C d_Model_again_12 (by decide) (fun c12 => ?_) (fun c12 => ?_)
    · skip
      rw [bI_0] at c12
      refine j_iconst (v := 0) C d_Model_again_24 (by decide) ?_
      refine j_iret C E rfl rfl d_Model_again_25 ?_
      have hb : againB M x p = false := by first | (simp [againB, c5]; done) | simp [againB, c12]
      exact ⟨rfl, FrD.refl, by rw [hb]; rfl, by rw [hb]; exact h⟩
    · skip
      rw [bI_0, Bool.not_eq_false] at c12
      refine j_aload_n C d_Model_again_15 rfl ?_
      refine j_iload_n C d_Model_again_16 rfl ?_
      refine j_iload_n C d_Model_again_17 rfl ?_
      refine j_callV C [.int x, .int p] d_Model_again_18 ml_Model_51 mv_Model_arrive k_Model_arrive ⟨_, _, rfl⟩ tmd (c_Model_arrive _ _ _ h hi hix p) (by decide) (by decide) rfl (Nat.le_of_ble_eq_true rfl) (Nat.le_of_ble_eq_true rfl) rfl (by simp [cat_rf, cat_int]) (fun v18 tt18 mi18 mr18 p18 => ?_)
      obtain ⟨rfl, hF1, rfl, hD⟩ := p18
      change J X _ mi18 mr18 0 0 21 _ [.int _]
      refine j_goto (tgt := 25) C d_Model_again_21 (by decide) ?_
      refine j_iret C E rfl rfl d_Model_again_25 ?_
      have hb : againB M x p = true := by simp [againB, c5, c12]
      exact ⟨rfl, hF1, by rw [hb]; rfl, by rw [hb]; exact hD⟩

set_option maxHeartbeats 4000000 in
set_option maxRecDepth 100000 in
theorem c_Model_leave (l : Launch) (D : jD) (N0 : Nat) {tt : jT} {mi : jI} {mr : jR} {md aq ap aa am ak : Nat} {M : Mt} (h : MR tt mi mr md aq ap aa am ak M) (x : Int32) : Ct l D N0 2 0 0 y_Model_leave b_Model_leave 2 (some .boolean) [va_rf (some md), .int x] tt mi mr (fun v tt' mi' mr' => tt' = tt ∧ FrD tt mi mr mi' mr' ∧ v = some (.int (bI (isQ M x))) ∧ MR tt mi' mr' md aq ap aa am ak (leaveM M x)) := by
  refine Ct.of "OrderDeskModel" (by decide +kernel) rfl (by simp [cat_rf, cat_int]) (Nat.le_of_ble_eq_true rfl) (fun X hXl hXd hXn C E I hWT => ?_)
  subst hXl hXd hXn
  obtain ⟨⟨tmd, hq0, hp0, ha0, hm0, hk0⟩, ⟨tq, tp, ta, tm, tk, npa, npm, nam⟩, hN, hR⟩ := id h
  refine j_aload_n C d_Model_leave_0 rfl ?_
  refine j_iload_n C d_Model_leave_1 rfl ?_
  refine j_callVi C [.int x] d_Model_leave_2 ml_Model_41 mv_Model_isQueued k_Model_isQueued ⟨_, _, rfl⟩ tmd (c_Model_isQueued _ _ _ h x) (by decide) (by decide) rfl (Nat.le_of_ble_eq_true rfl) (Nat.le_of_ble_eq_true rfl) rfl (by simp [cat_rf, cat_int]) ?_
  refine j_if_ne (tgt := 10) C d_Model_leave_5 (by decide) (fun c5 => ?_) (fun c5 => ?_)
  · skip
    rw [bI_0, Bool.not_eq_false] at c5
    have hQ2 : itemF x = true ∧ qdM M (ixN x) = true := by simpa [isQ] using c5
    obtain ⟨hi, hix⟩ : ixN x < 200 ∧ x = nI (ixN x) := itemF_spec hQ2.1
    refine j_aload_n C d_Model_leave_10 rfl ?_
    refine j_gets C d_Model_leave_11 fl_Model_7 cl_Model rfl (by assumption) rfl hq0 (fun t11 => ?_)
    refine j_iload_n C d_Model_leave_14 rfl ?_
    refine j_iconst (v := 0) C d_Model_leave_15 (by decide) ?_
    refine j_zast C (ixN x) d_Model_leave_16 (by assumption) hix hi (by decide) rfl (fun mi16 hm16 => ?_)
    refine j_aload_n C d_Model_leave_17 rfl ?_
    refine j_gets C d_Model_leave_18 fl_Model_20 cl_Model rfl (by assumption) rfl hm0 (fun t18 => ?_)
    refine j_iload_n C d_Model_leave_21 rfl ?_
    refine j_iconst (v := 0) C d_Model_leave_22 (by decide) ?_
    refine j_iast C (ixN x) d_Model_leave_23 (by assumption) hix hi (by decide) (fun mi23 hm23 => ?_)
    refine j_iconst (v := 1) C d_Model_leave_24 (by decide) ?_
    refine j_iret C E rfl (by first | rfl | exact nar_bI _) d_Model_leave_25 ?_
    rw [hm23, hm16]
    exact ⟨rfl, (FrD.puti tq rfl).trans (FrD.puti tm rfl), by rw [c5]; rfl, by rw [leaveM, if_pos c5]; exact h.leave hi⟩
  · skip
    replace c5 := bI_0.mp (by simpa using c5)
    refine j_iconst (v := 0) C d_Model_leave_8 (by decide) ?_
    refine j_iret C E rfl (by first | rfl | exact nar_bI _) d_Model_leave_9 ?_
    exact ⟨rfl, FrD.refl, by rw [c5]; rfl, by simp only [leaveM, c5]; exact h⟩

set_option maxHeartbeats 4000000 in
set_option maxRecDepth 100000 in
theorem c_Model_part (l : Launch) (D : jD) (N0 : Nat) {tt : jT} {mi : jI} {mr : jR} {md aq ap aa am ak : Nat} {M : Mt} (h : MR tt mi mr md aq ap aa am ak M) (hlen : ∀ i, i < 200 → (tkM M i).length ≤ 8) (x p : Int32) : Ct l D N0 2 0 0 y_Model_part b_Model_part 4 (some .boolean) [va_rf (some md), .int x, .int p] tt mi mr (fun v tt' mi' mr' => tt' = tt ∧ FrD tt mi mr mi' mr' ∧ v = some (.int (bI (partB M x p))) ∧ MR tt mi' mr' md aq ap aa am ak (partM M x p)) := by
  refine Ct.of "OrderDeskModel" (by decide +kernel) rfl (by simp [cat_rf, cat_int]) (Nat.le_of_ble_eq_true rfl) (fun X hXl hXd hXn C E I hWT => ?_)
  subst hXl hXd hXn
  obtain ⟨⟨tmd, hq0, hp0, ha0, hm0, hk0⟩, ⟨tq, tp, ta, tm, tk, npa, npm, nam⟩, hN, hR⟩ := id h
  refine j_aload_n C d_Model_part_0 rfl ?_
  refine j_iload_n C d_Model_part_1 rfl ?_
  refine j_callVi C [.int x] d_Model_part_2 ml_Model_41 mv_Model_isQueued k_Model_isQueued ⟨_, _, rfl⟩ tmd (c_Model_isQueued _ _ _ h x) (by decide) (by decide) rfl (Nat.le_of_ble_eq_true rfl) (Nat.le_of_ble_eq_true rfl) rfl (by simp [cat_rf, cat_int]) ?_
  refine j_if_eq (tgt := 17) C d_Model_part_5 (by decide) (fun c5 => ?_) (fun c5 => ?_)
  · skip
    rw [bI_0] at c5
    refine j_iconst (v := 0) C d_Model_part_17 (by decide) ?_
    refine j_iret C E rfl (by first | rfl | exact nar_bI _) d_Model_part_18 ?_
    have hb : partB M x p = false := by first | (simp [partB, c5]; done) | simp [partB, c14]
    exact ⟨rfl, FrD.refl, by rw [hb]; rfl, by simp only [partM, hb]; exact h⟩
  · skip
    rw [bI_0, Bool.not_eq_false] at c5
    have hQ2 : itemF x = true ∧ qdM M (ixN x) = true := by simpa [isQ] using c5
    obtain ⟨hi, hix⟩ : ixN x < 200 ∧ x = nI (ixN x) := itemF_spec hQ2.1
    refine j_aload_n C d_Model_part_8 rfl ?_
    refine j_iload_n C d_Model_part_9 rfl ?_
    refine j_iload_n C d_Model_part_10 rfl ?_
    refine j_callVi C [.int x, .int p] d_Model_part_11 ml_Model_34 mv_Model_takesFrom k_Model_takesFrom ⟨_, _, rfl⟩ tmd (c_Model_takesFrom _ _ _ h hlen hi hix p) (by decide) (by decide) rfl (Nat.le_of_ble_eq_true rfl) (Nat.le_of_ble_eq_true rfl) rfl (by simp [cat_rf, cat_int]) ?_
    refine j_if_ne (tgt := 19) C d_Model_part_14 (by decide) (fun c14 => ?_) (fun c14 => ?_)
    · skip
      rw [bI_0, Bool.not_eq_false, decide_eq_true_eq] at c14
      obtain ⟨i, hie⟩ : ∃ i, i = ixN x := ⟨_, rfl⟩
      rw [← hie] at hi hix c14
      have hx := hix
      have hxi : ixN x = i := hie.symm
      have hQ := c5
      have hpi : p ∈ tkM M i := c14
      obtain ⟨A, B, e, hpA⟩ : ∃ A B, tkM M i = A ++ p :: B ∧ p ∉ A := by
        obtain ⟨A, B, e, hn⟩ := List.eq_append_cons_of_mem hpi
        exact ⟨A, B, e, hn⟩
      have hl8 := hlen i hi
      have hll : (tkM M i).length = A.length + B.length + 1 := by rw [e]; simp; omega
      have hv := (hR i hi).2.2.2.2
      obtain ⟨mi1, hmi1⟩ : ∃ z, z = up2 mi am i (nI (A.length + B.length)) := ⟨_, rfl⟩
      have n12 := h.ne.2.2.2.2
      have loop2 : ∀ (n k : Nat) (mi2 : jI), A.length ≤ k → k ≤ A.length + B.length → A.length + B.length < k + n → (∀ b, b ≠ ak → mi2 b = up2 mi am i (nI (A.length + B.length)) b) → (∀ y, mi2 ak y = if 8 * i + A.length ≤ y ∧ y < 8 * i + k then mi ak (y + 1) else mi ak y) → J X tt mi2 mr 0 0 55 [some (va_rf (some md)), some (.int x), some (.int p), some (.int (nI (8 * i + k)))] [] := by
        intro n
        induction n with
        | zero => intro k mi2 h0 h1 h2; exact absurd h2 (by omega)
        | succ n ih =>
          intro k mi2 hkA hk hn h1 h2
          have hc2 : mi2 am i = nI (A.length + B.length) := by rw [h1 am (Ne.symm n12), up2_ap, if_pos ⟨rfl, rfl⟩]
          refine j_iload_n C d_Model_part_55 rfl ?_
          refine j_bipush (v := 8) C d_Model_part_56 (by decide) ?_
          refine j_iload_n C d_Model_part_58 rfl ?_
          refine j_imul C d_Model_part_59 ?_
          refine j_aload_n C d_Model_part_60 rfl ?_
          refine j_gets C d_Model_part_61 fl_Model_20 cl_Model rfl (by assumption) rfl hm0 (fun t61 => ?_)
          refine j_iload_n C d_Model_part_64 rfl ?_
          refine j_iald C i d_Model_part_65 (by assumption) hx hi (by decide) ?_
          refine j_iadd C d_Model_part_66 ?_
          refine j_icmp_ge (tgt := 90) C d_Model_part_67 (by decide) (fun c67 => ?_) (fun c67 => ?_)
          · skip
            rw [hc2, show (8 : Int32) = nI 8 from rfl, hx, pk_mul, nI_add, nI_leI (by omega) (by omega)] at c67
            have ek : k = A.length + B.length := by omega
            subst ek
            refine j_iconst (v := 1) C d_Model_part_90 (by decide) ?_
            refine j_iret C E rfl (by first | rfl | exact nar_bI _) d_Model_part_91 ?_
            have hb : partB M x p = true := by rw [partB, hQ, Bool.true_and, hxi, decide_eq_true hpi]
            refine ⟨rfl, fun a q ha hq => ⟨?_, rfl⟩, by rw [hb]; rfl, ?_⟩
            · have ha1 : a ≠ ak := fun w => by rw [w, tk] at ha; cases ha; simp [mK] at hq
              have ha2 : a ≠ am := fun w => by rw [w, tm] at ha; cases ha; simp [mK] at hq
              rw [h1 a ha1, up2_off _ _ _ _ ha2]
            · rw [partM, if_pos hb, hxi]
              exact h.part hlen hi e hpA h1 h2
          · skip
            rw [hc2, show (8 : Int32) = nI 8 from rfl, hx, pk_mul, nI_add, nI_leI (by omega) (by omega)] at c67
            refine j_aload_n C d_Model_part_70 rfl ?_
            refine j_gets C d_Model_part_71 fl_Model_23 cl_Model rfl (by assumption) rfl hk0 (fun t71 => ?_)
            refine j_iload_n C d_Model_part_74 rfl ?_
            refine j_aload_n C d_Model_part_75 rfl ?_
            refine j_gets C d_Model_part_76 fl_Model_23 cl_Model rfl (by assumption) rfl hk0 (fun t76 => ?_)
            refine j_iload_n C d_Model_part_79 rfl ?_
            refine j_iconst (v := 1) C d_Model_part_80 (by decide) ?_
            refine j_iadd C d_Model_part_81 ?_
            refine j_iald C (8 * i + k + 1) d_Model_part_82 (by assumption) (nI_1 _) (by omega) (by decide) ?_
            refine j_iast C (8 * i + k) d_Model_part_83 (by assumption) rfl (by omega) (by decide) (fun mi83 hm83 => ?_)
            refine j_iinc C d_Model_part_84 rfl (nI_1 _) ?_
            refine j_goto (tgt := 55) C d_Model_part_87 (by decide) ?_
            refine ih (k + 1) mi83 (by omega) (by omega) (by omega) (fun b hb => by rw [hm83, up2_off _ _ _ _ hb, h1 b hb]) (fun y => ?_)
            rw [hm83, up2_ap]
            by_cases w : y = 8 * i + k
            · rw [if_pos ⟨rfl, w⟩, if_pos (by omega), h2, if_neg (by omega), w]
            · rw [if_neg (fun v => w v.2), h2]
              by_cases v : 8 * i + A.length ≤ y ∧ y < 8 * i + k
              · rw [if_pos v, if_pos (by omega)]
              · rw [if_neg v, if_neg (by omega)]
      have tail : J X tt mi mr 0 0 41 [some (va_rf (some md)), some (.int x), some (.int p), some (.int (nI (8 * i + A.length)))] [] := by
        refine j_aload_n C d_Model_part_41 rfl ?_
        refine j_gets C d_Model_part_42 fl_Model_20 cl_Model rfl (by assumption) rfl hm0 (fun t42 => ?_)
        refine j_iload_n C d_Model_part_45 rfl ?_
        refine j_aload_n C d_Model_part_46 rfl ?_
        refine j_gets C d_Model_part_47 fl_Model_20 cl_Model rfl (by assumption) rfl hm0 (fun t47 => ?_)
        refine j_iload_n C d_Model_part_50 rfl ?_
        refine j_iald C i d_Model_part_51 (by assumption) hx hi (by decide) ?_
        refine j_iconst (v := 1) C d_Model_part_52 (by decide) ?_
        refine j_isub C d_Model_part_53 ?_
        refine j_iast C i d_Model_part_54 (by assumption) hx hi (by decide) (fun mi54 hm54 => ?_)
        have e54 : mi54 = up2 mi am i (nI (A.length + B.length)) := by rw [hm54, (hR i hi).2.2.2.1, hll]; congr 1; exact nI_pred _
        refine loop2 (A.length + B.length + 1) A.length mi54 (Nat.le_refl _) (by omega) (by omega) (fun b hb => by rw [e54]) (fun y => ?_)
        rw [if_neg (by omega), e54, up2_off _ _ _ _ n12]
      have loop1 : ∀ (n k : Nat), k ≤ A.length → A.length < k + n → J X tt mi mr 0 0 24 [some (va_rf (some md)), some (.int x), some (.int p), some (.int (nI (8 * i + k)))] [] := by
        intro n
        induction n with
        | zero => intro k h1 h2; exact absurd h2 (by omega)
        | succ n ih =>
          intro k hk hn
          obtain ⟨z, hz⟩ : ∃ z, (tkM M i)[k]? = some z := ⟨_, List.getElem?_eq_getElem (by omega)⟩
          refine j_aload_n C d_Model_part_24 rfl ?_
          refine j_gets C d_Model_part_25 fl_Model_23 cl_Model rfl (by assumption) rfl hk0 (fun t25 => ?_)
          refine j_iload_n C d_Model_part_28 rfl ?_
          refine j_iald C (8 * i + k) d_Model_part_29 (by assumption) rfl (by omega) (by decide) ?_
          refine j_iload_n C d_Model_part_30 rfl ?_
          refine j_icmp_eq (tgt := 41) C d_Model_part_31 (by decide) (fun c31 => ?_) (fun c31 => ?_)
          · skip
            rw [hv k z hz] at c31
            have ek : k = A.length := by
              by_cases w : k < A.length
              · exfalso; apply hpA; rw [e, List.getElem?_append_left w] at hz; rw [← c31]; exact List.mem_of_getElem? hz
              · omega
            subst ek
            exact tail
          · skip
            rw [hv k z hz] at c31
            have hkn : k ≠ A.length := fun w => by
              rw [e, w] at hz
              simp at hz
              exact c31 hz.symm
            refine j_iload_n C d_Model_part_34 rfl ?_
            refine j_iconst (v := 1) C d_Model_part_35 (by decide) ?_
            refine j_iadd C d_Model_part_36 ?_
            rw [nI_1]
            refine j_istore_n C d_Model_part_37 (Nat.le_of_ble_eq_true rfl) ?_
            refine j_goto (tgt := 24) C d_Model_part_38 (by decide) ?_
            exact ih (k + 1) (by omega) (by omega)
      refine j_bipush (v := 8) C d_Model_part_19 (by decide) ?_
      refine j_iload_n C d_Model_part_21 rfl ?_
      refine j_imul C d_Model_part_22 ?_
      rw [show (8 : Int32) * x = nI (8 * i + 0) by rw [show (8 : Int32) = nI 8 from rfl, hx, pk_mul]; rfl]
      refine j_istore_n C d_Model_part_23 (Nat.le_of_ble_eq_true rfl) ?_
      exact loop1 (A.length + 1) 0 (by omega) (by omega)
    · skip
      replace c14 := bI_0.mp (by simpa using c14)
      rw [decide_eq_false_iff_not] at c14
      refine j_iconst (v := 0) C d_Model_part_17 (by decide) ?_
      refine j_iret C E rfl (by first | rfl | exact nar_bI _) d_Model_part_18 ?_
      have hb : partB M x p = false := by first | (simp [partB, c5]; done) | simp [partB, c14]
      exact ⟨rfl, FrD.refl, by rw [hb]; rfl, by simp only [partM, hb]; exact h⟩
end
section
/-! THE MODEL's QUESTIONS -/
def inS (M : Mt) (a : Option Nat) (p : Int32) (i : Nat) : Bool := isOfB M p i && (match a with
  | none => true
  | some a => befM M a i)
def itV (a : Option Nat) : Int32 := match a with
  | none => -1
  | some a => nI a
def btr (M : Mt) (last : Bool) (i j : Nat) : Bool := cond last (befM M j i) (befM M i j)
/-- r is the best of those of S below n: -1 where there is none -/
def bst (M : Mt) (last : Bool) (S : Nat → Bool) (n : Nat) (r : Int32) : Prop := (r = -1 ∧ ∀ i, i < n → S i = false) ∨ ∃ i, i < n ∧ r = nI i ∧ S i = true ∧ ∀ j, j < n → S j = true → j ≠ i → btr M last i j = true
theorem nI_m1 {i : Nat} (h : i < 200) : nI i ≠ -1 := by
  intro e
  have h1 := nI_toInt (n := i) (by omega)
  rw [e] at h1
  have : (-1 : Int32).toInt = -1 := by decide
  rw [this] at h1
  omega
theorem befM_tot {M : Mt} (hM : MI M) {i j : Nat} (hi : i < 200) (hj : j < 200) (hqi : qdM M i = true) (hqj : qdM M j = true) (hne : i ≠ j) (h : befM M i j = false) : befM M j i = true := bef_tot (fun e => hne (hM.2.2 i j hi hj hqi hqj e)) h
theorem befM_trans {M : Mt} {i j k : Nat} (h1 : befM M i j = true) (h2 : befM M j k = true) : befM M i k = true := bef_trans h1 h2
theorem befM_asym {M : Mt} {i j : Nat} (h1 : befM M i j = true) : befM M j i = false := bef_asym h1
theorem befM_irr {M : Mt} {i : Nat} : befM M i i = false := bef_irr
theorem btr_trans {M : Mt} {last : Bool} {i j k : Nat} (h1 : btr M last i j = true) (h2 : btr M last j k = true) : btr M last i k = true := by
  cases last
  · exact befM_trans h1 h2
  · exact befM_trans h2 h1
theorem btr_tot {M : Mt} (hM : MI M) {last : Bool} {i j : Nat} (hi : i < 200) (hj : j < 200) (hqi : qdM M i = true) (hqj : qdM M j = true) (hne : i ≠ j) (h : btr M last i j = false) : btr M last j i = true := by
  cases last
  · exact befM_tot hM hi hj hqi hqj hne h
  · exact befM_tot hM hj hi hqj hqi (Ne.symm hne) h
theorem btr_asym {M : Mt} {last : Bool} {i j : Nat} (h1 : btr M last i j = true) : btr M last j i = false := by
  cases last
  · exact befM_asym h1
  · exact befM_asym h1
theorem bst_0 {M : Mt} {last : Bool} {S : Nat → Bool} : bst M last S 0 (-1) := Or.inl ⟨rfl, fun i hi => absurd hi (by omega)⟩
theorem bst_skip {M : Mt} {last : Bool} {S : Nat → Bool} {n : Nat} {r : Int32} (h : bst M last S n r) (hS : S n = false) : bst M last S (n + 1) r := by
  rcases h with ⟨e, h⟩ | ⟨i, hi, e, hSi, h⟩
  · refine Or.inl ⟨e, fun j hj => ?_⟩
    by_cases z : j = n
    · rw [z]; exact hS
    · exact h j (by omega)
  · refine Or.inr ⟨i, by omega, e, hSi, fun j hj hSj hne => ?_⟩
    by_cases z : j = n
    · rw [z, hS] at hSj; cases hSj
    · exact h j (by omega) hSj hne
theorem bst_first {M : Mt} {last : Bool} {S : Nat → Bool} {n : Nat} {r : Int32} (hn : n ≤ 200) (h : bst M last S n r) (hr : r = -1) (hS : S n = true) : bst M last S (n + 1) (nI n) := by
  rcases h with ⟨-, h⟩ | ⟨i, hi, e, -⟩
  · refine Or.inr ⟨n, by omega, rfl, hS, fun j hj hSj hne => ?_⟩
    rw [h j (by omega)] at hSj
    cases hSj
  · exact absurd (e.symm.trans hr) (nI_m1 (by omega))
theorem bst_at {M : Mt} {last : Bool} {S : Nat → Bool} {n : Nat} {r : Int32} (h : bst M last S n r) (hr : ¬ r = -1) : ∃ i, i < n ∧ r = nI i ∧ S i = true ∧ ∀ j, j < n → S j = true → j ≠ i → btr M last i j = true := by
  rcases h with ⟨e, -⟩ | h
  · exact absurd e hr
  · exact h
theorem bst_new {M : Mt} {last : Bool} {S : Nat → Bool} {n i : Nat} (h : ∀ j, j < n → S j = true → j ≠ i → btr M last i j = true) (hS : S n = true) (hb : btr M last n i = true) : bst M last S (n + 1) (nI n) := by
  refine Or.inr ⟨n, by omega, rfl, hS, fun j hj hSj hne => ?_⟩
  by_cases z : j = i
  · rw [z]; exact hb
  · exact btr_trans hb (h j (by omega) hSj z)
theorem bst_old {M : Mt} (hM : MI M) {last : Bool} {S : Nat → Bool} (hSq : ∀ i, S i = true → qdM M i = true) {n i : Nat} (hn : n < 200) (hi : i < n) (hSi : S i = true) (h : ∀ j, j < n → S j = true → j ≠ i → btr M last i j = true) (hS : S n = true) (hb : btr M last n i = false) : bst M last S (n + 1) (nI i) := by
  refine Or.inr ⟨i, by omega, rfl, hSi, fun j hj hSj hne => ?_⟩
  by_cases z : j = n
  · rw [z]; exact btr_tot hM hn (by omega) (hSq n hS) (hSq i hSi) (by omega) hb
  · exact h j (by omega) hSj hne
/-- there is one best -/
theorem bst_uniq {M : Mt} {last : Bool} {S : Nat → Bool} {r r' : Int32} (h : bst M last S 200 r) (h' : bst M last S 200 r') : r = r' := by
  rcases h with ⟨e, h⟩ | ⟨i, hi, e, hSi, h⟩ <;> rcases h' with ⟨e', h'⟩ | ⟨i', hi', e', hSi', h'⟩
  · rw [e, e']
  · rw [h i' hi'] at hSi'; cases hSi'
  · rw [h' i hi] at hSi; cases hSi
  · by_cases z : i = i'
    · rw [e, e', z]
    · have h1 := h i' hi' hSi' (Ne.symm z)
      have h2 := h' i hi hSi z
      rw [btr_asym h1] at h2
      cases h2
theorem inS_q {M : Mt} {a : Option Nat} {p : Int32} {i : Nat} (h : inS M a p i = true) : qdM M i = true := by
  unfold inS isOfB at h
  rw [Bool.and_eq_true, Bool.and_eq_true] at h
  exact h.1.1

set_option maxHeartbeats 4000000 in
set_option maxRecDepth 100000 in
/-- nearest -/
theorem c_Model_nearest (l : Launch) (D : jD) (N0 : Nat) {tt : jT} {mi : jI} {mr : jR} {md aq ap aa am ak : Nat} {M : Mt} (h : MR tt mi mr md aq ap aa am ak M) (hM : MI M) {a : Option Nat} (ha : ∀ i, a = some i → i < 200) {xi : Int32} (hxi : xi = itV a) (p : Int32) (last : Bool) : Ct l D N0 2 0 0 y_Model_nearest b_Model_nearest 7 (some .int) [va_rf (some md), .int xi, .int p, .int (bI last)] tt mi mr (fun v tt' mi' mr' => tt' = tt ∧ mi' = mi ∧ mr' = mr ∧ ∃ r, v = some (.int r) ∧ bst M last (inS M a p) 200 r) := by
  refine Ct.of "OrderDeskModel" (by decide +kernel) rfl (by simp [cat_rf, cat_int]) (Nat.le_of_ble_eq_true rfl) (fun X hXl hXd hXn C E I hWT => ?_)
  subst hXl hXd hXn
  obtain ⟨⟨tmd, hq0, hp0, ha0, hm0, hk0⟩, ⟨tq, tp, ta, tm, tk, npa, npm, nam⟩, hN, hR⟩ := id h
  have hlen : ∀ i, i < 200 → (tkM M i).length ≤ 8 := fun i hi => (hM.1 i hi).2.1
  cases a with
  | none =>
    refine j_iconst (v := -1) C d_Model_nearest_0 (by decide) ?_
    refine j_istore C d_Model_nearest_1 (Nat.le_of_ble_eq_true rfl) ?_
    refine j_iconst (v := 0) C d_Model_nearest_3 (by decide) ?_
    refine j_istore C d_Model_nearest_4 (Nat.le_of_ble_eq_true rfl) ?_
    have loop : ∀ (n k : Nat) (r : Int32) (x6 : Option Value), k ≤ 200 → 200 < k + n → bst M last (inS M none p) k r → J X tt mi mr 0 0 6 [some (va_rf (some md)), some (.int xi), some (.int p), some (.int (bI last)), some (.int r), some (.int (nI k)), x6] [] := by
      intro n
      induction n with
      | zero => intro k r x6 h1 h2; exact absurd h2 (by omega)
      | succ n ih =>
        intro k r x6 hk hn hb
        by_cases hk2 : k < 200
        · have tail : J X tt mi mr 0 0 44 [some (va_rf (some md)), some (.int xi), some (.int p), some (.int (bI last)), some (.int r), some (.int (nI k)), x6] [.int (bI (inS M none p k))] := by
            refine j_istore C d_Model_nearest_44 (Nat.le_of_ble_eq_true rfl) ?_
            refine j_iload C d_Model_nearest_46 rfl ?_
            refine j_if_eq (tgt := 90) C d_Model_nearest_48 (by decide) (fun c48 => ?_) (fun c48 => ?_)
            · skip
              rw [bI_0] at c48
              have hst := bst_skip hb c48
              refine j_iinc C d_Model_nearest_90 rfl (nI_1 k) ?_
              refine j_goto (tgt := 6) C d_Model_nearest_93 (by decide) ?_
              exact ih (k + 1) _ _ (by omega) (by omega) hst
            · skip
              rw [bI_0, Bool.not_eq_false] at c48
              refine j_iload C d_Model_nearest_51 rfl ?_
              refine j_iconst (v := (-1)) C d_Model_nearest_53 (by decide) ?_
              refine j_icmp_eq (tgt := 86) C d_Model_nearest_54 (by decide) (fun c54 => ?_) (fun c54 => ?_)
              · skip
                have hst := bst_first (by omega) hb c54 c48
                refine j_iload C d_Model_nearest_86 rfl ?_
                refine j_istore C d_Model_nearest_88 (Nat.le_of_ble_eq_true rfl) ?_
                refine j_iinc C d_Model_nearest_90 rfl (nI_1 k) ?_
                refine j_goto (tgt := 6) C d_Model_nearest_93 (by decide) ?_
                exact ih (k + 1) _ _ (by omega) (by omega) hst
              · skip
                obtain ⟨b, hbk, rfl, hSb, hbest⟩ := bst_at hb c54
                refine j_iload_n C d_Model_nearest_57 rfl ?_
                refine j_if_eq (tgt := 75) C d_Model_nearest_58 (by decide) (fun c58 => ?_) (fun c58 => ?_)
                · skip
                  rw [bI_0] at c58
                  subst c58
                  refine j_aload_n C d_Model_nearest_75 rfl ?_
                  refine j_iload C d_Model_nearest_76 rfl ?_
                  refine j_iload C d_Model_nearest_78 rfl ?_
                  refine j_callVi C [.int (nI k), .int (nI b)] d_Model_nearest_80 ml_Model_58 mv_Model_stands k_Model_stands ⟨_, _, rfl⟩ tmd (c_Model_stands _ _ _ h (by omega) rfl (by omega) rfl) (by decide) (by decide) rfl (Nat.le_of_ble_eq_true rfl) (Nat.le_of_ble_eq_true rfl) rfl (by simp [cat_rf, cat_int]) ?_
                  refine j_if_eq (tgt := 90) C d_Model_nearest_83 (by decide) (fun c83 => ?_) (fun c83 => ?_)
                  · skip
                    rw [bI_0] at c83
                    have hst := bst_old hM (last := false) (fun i => inS_q) (by omega) hbk hSb hbest c48 c83
                    refine j_iinc C d_Model_nearest_90 rfl (nI_1 k) ?_
                    refine j_goto (tgt := 6) C d_Model_nearest_93 (by decide) ?_
                    exact ih (k + 1) _ _ (by omega) (by omega) hst
                  · skip
                    rw [bI_0, Bool.not_eq_false] at c83
                    have hst := bst_new (last := false) hbest c48 c83
                    refine j_iload C d_Model_nearest_86 rfl ?_
                    refine j_istore C d_Model_nearest_88 (Nat.le_of_ble_eq_true rfl) ?_
                    refine j_iinc C d_Model_nearest_90 rfl (nI_1 k) ?_
                    refine j_goto (tgt := 6) C d_Model_nearest_93 (by decide) ?_
                    exact ih (k + 1) _ _ (by omega) (by omega) hst
                · skip
                  rw [bI_0, Bool.not_eq_false] at c58
                  subst c58
                  refine j_aload_n C d_Model_nearest_61 rfl ?_
                  refine j_iload C d_Model_nearest_62 rfl ?_
                  refine j_iload C d_Model_nearest_64 rfl ?_
                  refine j_callVi C [.int (nI b), .int (nI k)] d_Model_nearest_66 ml_Model_58 mv_Model_stands k_Model_stands ⟨_, _, rfl⟩ tmd (c_Model_stands _ _ _ h (by omega) rfl (by omega) rfl) (by decide) (by decide) rfl (Nat.le_of_ble_eq_true rfl) (Nat.le_of_ble_eq_true rfl) rfl (by simp [cat_rf, cat_int]) ?_
                  refine j_if_eq (tgt := 90) C d_Model_nearest_69 (by decide) (fun c69 => ?_) (fun c69 => ?_)
                  · skip
                    rw [bI_0] at c69
                    have hst := bst_old hM (last := true) (fun i => inS_q) (by omega) hbk hSb hbest c48 c69
                    refine j_iinc C d_Model_nearest_90 rfl (nI_1 k) ?_
                    refine j_goto (tgt := 6) C d_Model_nearest_93 (by decide) ?_
                    exact ih (k + 1) _ _ (by omega) (by omega) hst
                  · skip
                    rw [bI_0, Bool.not_eq_false] at c69
                    have hst := bst_new (last := true) hbest c48 c69
                    refine j_goto (tgt := 86) C d_Model_nearest_72 (by decide) ?_
                    refine j_iload C d_Model_nearest_86 rfl ?_
                    refine j_istore C d_Model_nearest_88 (Nat.le_of_ble_eq_true rfl) ?_
                    refine j_iinc C d_Model_nearest_90 rfl (nI_1 k) ?_
                    refine j_goto (tgt := 6) C d_Model_nearest_93 (by decide) ?_
                    exact ih (k + 1) _ _ (by omega) (by omega) hst
          skip
          refine j_iload C d_Model_nearest_6 rfl ?_
          refine j_sipush (v := 200) C d_Model_nearest_8 (by decide) ?_
          refine j_icmp_ge (tgt := 96) C d_Model_nearest_11 (by decide) (fun c11 => ?_) (fun c11 => ?_)
          · skip
            rw [show (200 : Int32) = nI 200 from rfl, nI_leI (by omega) (by omega)] at c11
            have ek : k = 200 := by omega
            subst ek
            refine j_iload C d_Model_nearest_96 rfl ?_
            refine j_iret C E rfl rfl d_Model_nearest_98 ?_
            exact ⟨rfl, rfl, rfl, r, rfl, hb⟩
          · skip
            rw [show (200 : Int32) = nI 200 from rfl, nI_leI (by omega) (by omega)] at c11
            refine j_aload_n C d_Model_nearest_14 rfl ?_
            refine j_iload C d_Model_nearest_15 rfl ?_
            refine j_iload_n C d_Model_nearest_17 rfl ?_
            refine j_callVi C [.int (nI k), .int p] d_Model_nearest_18 ml_Model_55 mv_Model_isOf k_Model_isOf ⟨_, _, rfl⟩ tmd (c_Model_isOf _ _ _ h hlen (by omega) rfl p) (by decide) (by decide) rfl (Nat.le_of_ble_eq_true rfl) (Nat.le_of_ble_eq_true rfl) rfl (by simp [cat_rf, cat_int]) ?_
            refine j_if_eq (tgt := 43) C d_Model_nearest_21 (by decide) (fun c21 => ?_) (fun c21 => ?_)
            · skip
              rw [bI_0] at c21
              have hin : inS M none p k = false := by simp [inS, c21]
              refine j_iconst (v := 0) C d_Model_nearest_43 (by decide) ?_
              rw [hin] at tail
              exact tail
            · skip
              rw [bI_0, Bool.not_eq_false] at c21
              have hin : inS M none p k = true := by simp [inS, c21]
              refine j_iload_n C d_Model_nearest_24 rfl ?_
              refine j_iconst (v := (-1)) C d_Model_nearest_25 (by decide) ?_
              refine j_icmp_eq (tgt := 39) C d_Model_nearest_26 (by decide) (fun c26 => ?_) (fun c26 => ?_)
              · skip
                refine j_iconst (v := 1) C d_Model_nearest_39 (by decide) ?_
                refine j_goto (tgt := 44) C d_Model_nearest_40 (by decide) ?_
                rw [hin] at tail
                exact tail
              · skip
                exact absurd hxi c26
        · skip
          refine j_iload C d_Model_nearest_6 rfl ?_
          refine j_sipush (v := 200) C d_Model_nearest_8 (by decide) ?_
          refine j_icmp_ge (tgt := 96) C d_Model_nearest_11 (by decide) (fun c11 => ?_) (fun c11 => ?_)
          · skip
            rw [show (200 : Int32) = nI 200 from rfl, nI_leI (by omega) (by omega)] at c11
            have ek : k = 200 := by omega
            subst ek
            refine j_iload C d_Model_nearest_96 rfl ?_
            refine j_iret C E rfl rfl d_Model_nearest_98 ?_
            exact ⟨rfl, rfl, rfl, r, rfl, hb⟩
          · skip
            exact absurd c11 (by rw [show (200 : Int32) = nI 200 from rfl, nI_leI (by omega) (by omega)]; omega)
    exact loop 201 0 (-1) none (by omega) (by omega) bst_0
  | some i0 =>
    refine j_iconst (v := -1) C d_Model_nearest_0 (by decide) ?_
    refine j_istore C d_Model_nearest_1 (Nat.le_of_ble_eq_true rfl) ?_
    refine j_iconst (v := 0) C d_Model_nearest_3 (by decide) ?_
    refine j_istore C d_Model_nearest_4 (Nat.le_of_ble_eq_true rfl) ?_
    have loop : ∀ (n k : Nat) (r : Int32) (x6 : Option Value), k ≤ 200 → 200 < k + n → bst M last (inS M (some i0) p) k r → J X tt mi mr 0 0 6 [some (va_rf (some md)), some (.int xi), some (.int p), some (.int (bI last)), some (.int r), some (.int (nI k)), x6] [] := by
      intro n
      induction n with
      | zero => intro k r x6 h1 h2; exact absurd h2 (by omega)
      | succ n ih =>
        intro k r x6 hk hn hb
        by_cases hk2 : k < 200
        · have tail : J X tt mi mr 0 0 44 [some (va_rf (some md)), some (.int xi), some (.int p), some (.int (bI last)), some (.int r), some (.int (nI k)), x6] [.int (bI (inS M (some i0) p k))] := by
            refine j_istore C d_Model_nearest_44 (Nat.le_of_ble_eq_true rfl) ?_
            refine j_iload C d_Model_nearest_46 rfl ?_
            refine j_if_eq (tgt := 90) C d_Model_nearest_48 (by decide) (fun c48 => ?_) (fun c48 => ?_)
            · skip
              rw [bI_0] at c48
              have hst := bst_skip hb c48
              refine j_iinc C d_Model_nearest_90 rfl (nI_1 k) ?_
              refine j_goto (tgt := 6) C d_Model_nearest_93 (by decide) ?_
              exact ih (k + 1) _ _ (by omega) (by omega) hst
            · skip
              rw [bI_0, Bool.not_eq_false] at c48
              refine j_iload C d_Model_nearest_51 rfl ?_
              refine j_iconst (v := (-1)) C d_Model_nearest_53 (by decide) ?_
              refine j_icmp_eq (tgt := 86) C d_Model_nearest_54 (by decide) (fun c54 => ?_) (fun c54 => ?_)
              · skip
                have hst := bst_first (by omega) hb c54 c48
                refine j_iload C d_Model_nearest_86 rfl ?_
                refine j_istore C d_Model_nearest_88 (Nat.le_of_ble_eq_true rfl) ?_
                refine j_iinc C d_Model_nearest_90 rfl (nI_1 k) ?_
                refine j_goto (tgt := 6) C d_Model_nearest_93 (by decide) ?_
                exact ih (k + 1) _ _ (by omega) (by omega) hst
              · skip
                obtain ⟨b, hbk, rfl, hSb, hbest⟩ := bst_at hb c54
                refine j_iload_n C d_Model_nearest_57 rfl ?_
                refine j_if_eq (tgt := 75) C d_Model_nearest_58 (by decide) (fun c58 => ?_) (fun c58 => ?_)
                · skip
                  rw [bI_0] at c58
                  subst c58
                  refine j_aload_n C d_Model_nearest_75 rfl ?_
                  refine j_iload C d_Model_nearest_76 rfl ?_
                  refine j_iload C d_Model_nearest_78 rfl ?_
                  refine j_callVi C [.int (nI k), .int (nI b)] d_Model_nearest_80 ml_Model_58 mv_Model_stands k_Model_stands ⟨_, _, rfl⟩ tmd (c_Model_stands _ _ _ h (by omega) rfl (by omega) rfl) (by decide) (by decide) rfl (Nat.le_of_ble_eq_true rfl) (Nat.le_of_ble_eq_true rfl) rfl (by simp [cat_rf, cat_int]) ?_
                  refine j_if_eq (tgt := 90) C d_Model_nearest_83 (by decide) (fun c83 => ?_) (fun c83 => ?_)
                  · skip
                    rw [bI_0] at c83
                    have hst := bst_old hM (last := false) (fun i => inS_q) (by omega) hbk hSb hbest c48 c83
                    refine j_iinc C d_Model_nearest_90 rfl (nI_1 k) ?_
                    refine j_goto (tgt := 6) C d_Model_nearest_93 (by decide) ?_
                    exact ih (k + 1) _ _ (by omega) (by omega) hst
                  · skip
                    rw [bI_0, Bool.not_eq_false] at c83
                    have hst := bst_new (last := false) hbest c48 c83
                    refine j_iload C d_Model_nearest_86 rfl ?_
                    refine j_istore C d_Model_nearest_88 (Nat.le_of_ble_eq_true rfl) ?_
                    refine j_iinc C d_Model_nearest_90 rfl (nI_1 k) ?_
                    refine j_goto (tgt := 6) C d_Model_nearest_93 (by decide) ?_
                    exact ih (k + 1) _ _ (by omega) (by omega) hst
                · skip
                  rw [bI_0, Bool.not_eq_false] at c58
                  subst c58
                  refine j_aload_n C d_Model_nearest_61 rfl ?_
                  refine j_iload C d_Model_nearest_62 rfl ?_
                  refine j_iload C d_Model_nearest_64 rfl ?_
                  refine j_callVi C [.int (nI b), .int (nI k)] d_Model_nearest_66 ml_Model_58 mv_Model_stands k_Model_stands ⟨_, _, rfl⟩ tmd (c_Model_stands _ _ _ h (by omega) rfl (by omega) rfl) (by decide) (by decide) rfl (Nat.le_of_ble_eq_true rfl) (Nat.le_of_ble_eq_true rfl) rfl (by simp [cat_rf, cat_int]) ?_
                  refine j_if_eq (tgt := 90) C d_Model_nearest_69 (by decide) (fun c69 => ?_) (fun c69 => ?_)
                  · skip
                    rw [bI_0] at c69
                    have hst := bst_old hM (last := true) (fun i => inS_q) (by omega) hbk hSb hbest c48 c69
                    refine j_iinc C d_Model_nearest_90 rfl (nI_1 k) ?_
                    refine j_goto (tgt := 6) C d_Model_nearest_93 (by decide) ?_
                    exact ih (k + 1) _ _ (by omega) (by omega) hst
                  · skip
                    rw [bI_0, Bool.not_eq_false] at c69
                    have hst := bst_new (last := true) hbest c48 c69
                    refine j_goto (tgt := 86) C d_Model_nearest_72 (by decide) ?_
                    refine j_iload C d_Model_nearest_86 rfl ?_
                    refine j_istore C d_Model_nearest_88 (Nat.le_of_ble_eq_true rfl) ?_
                    refine j_iinc C d_Model_nearest_90 rfl (nI_1 k) ?_
                    refine j_goto (tgt := 6) C d_Model_nearest_93 (by decide) ?_
                    exact ih (k + 1) _ _ (by omega) (by omega) hst
          skip
          refine j_iload C d_Model_nearest_6 rfl ?_
          refine j_sipush (v := 200) C d_Model_nearest_8 (by decide) ?_
          refine j_icmp_ge (tgt := 96) C d_Model_nearest_11 (by decide) (fun c11 => ?_) (fun c11 => ?_)
          · skip
            rw [show (200 : Int32) = nI 200 from rfl, nI_leI (by omega) (by omega)] at c11
            have ek : k = 200 := by omega
            subst ek
            refine j_iload C d_Model_nearest_96 rfl ?_
            refine j_iret C E rfl rfl d_Model_nearest_98 ?_
            exact ⟨rfl, rfl, rfl, r, rfl, hb⟩
          · skip
            rw [show (200 : Int32) = nI 200 from rfl, nI_leI (by omega) (by omega)] at c11
            refine j_aload_n C d_Model_nearest_14 rfl ?_
            refine j_iload C d_Model_nearest_15 rfl ?_
            refine j_iload_n C d_Model_nearest_17 rfl ?_
            refine j_callVi C [.int (nI k), .int p] d_Model_nearest_18 ml_Model_55 mv_Model_isOf k_Model_isOf ⟨_, _, rfl⟩ tmd (c_Model_isOf _ _ _ h hlen (by omega) rfl p) (by decide) (by decide) rfl (Nat.le_of_ble_eq_true rfl) (Nat.le_of_ble_eq_true rfl) rfl (by simp [cat_rf, cat_int]) ?_
            refine j_if_eq (tgt := 43) C d_Model_nearest_21 (by decide) (fun c21 => ?_) (fun c21 => ?_)
            · skip
              rw [bI_0] at c21
              have hin : inS M (some i0) p k = false := by simp [inS, c21]
              refine j_iconst (v := 0) C d_Model_nearest_43 (by decide) ?_
              rw [hin] at tail
              exact tail
            · skip
              rw [bI_0, Bool.not_eq_false] at c21
              refine j_iload_n C d_Model_nearest_24 rfl ?_
              refine j_iconst (v := (-1)) C d_Model_nearest_25 (by decide) ?_
              refine j_icmp_eq (tgt := 39) C d_Model_nearest_26 (by decide) (fun c26 => ?_) (fun c26 => ?_)
              · skip
                exact absurd (hxi.symm.trans c26) (nI_m1 (ha i0 rfl))
              · skip
                refine j_aload_n C d_Model_nearest_29 rfl ?_
                refine j_iload_n C d_Model_nearest_30 rfl ?_
                refine j_iload C d_Model_nearest_31 rfl ?_
                refine j_callVi C [.int xi, .int (nI k)] d_Model_nearest_33 ml_Model_58 mv_Model_stands k_Model_stands ⟨_, _, rfl⟩ tmd (c_Model_stands _ _ _ h (ha i0 rfl) hxi (by omega) rfl) (by decide) (by decide) rfl (Nat.le_of_ble_eq_true rfl) (Nat.le_of_ble_eq_true rfl) rfl (by simp [cat_rf, cat_int]) ?_
                refine j_if_eq (tgt := 43) C d_Model_nearest_36 (by decide) (fun c36 => ?_) (fun c36 => ?_)
                · skip
                  rw [bI_0] at c36
                  have hin : inS M (some i0) p k = false := by simp [inS, c36]
                  refine j_iconst (v := 0) C d_Model_nearest_43 (by decide) ?_
                  rw [hin] at tail
                  exact tail
                · skip
                  rw [bI_0, Bool.not_eq_false] at c36
                  have hin : inS M (some i0) p k = true := by simp [inS, c21, c36]
                  refine j_iconst (v := 1) C d_Model_nearest_39 (by decide) ?_
                  refine j_goto (tgt := 44) C d_Model_nearest_40 (by decide) ?_
                  rw [hin] at tail
                  exact tail
        · skip
          refine j_iload C d_Model_nearest_6 rfl ?_
          refine j_sipush (v := 200) C d_Model_nearest_8 (by decide) ?_
          refine j_icmp_ge (tgt := 96) C d_Model_nearest_11 (by decide) (fun c11 => ?_) (fun c11 => ?_)
          · skip
            rw [show (200 : Int32) = nI 200 from rfl, nI_leI (by omega) (by omega)] at c11
            have ek : k = 200 := by omega
            subst ek
            refine j_iload C d_Model_nearest_96 rfl ?_
            refine j_iret C E rfl rfl d_Model_nearest_98 ?_
            exact ⟨rfl, rfl, rfl, r, rfl, hb⟩
          · skip
            exact absurd c11 (by rw [show (200 : Int32) = nI 200 from rfl, nI_leI (by omega) (by omega)]; omega)
    exact loop 201 0 (-1) none (by omega) (by omega) bst_0
end
section
/-! THE MODEL's QUESTIONS, 2 -/
def ask (tt : jT) (mi : jI) (mr : jR) (S : Int32 → Prop) : jPost := fun v tt' mi' mr' => tt' = tt ∧ mi' = mi ∧ mr' = mr ∧ ∃ r, v = some (.int r) ∧ S r
def nxS (M : Mt) (x r : Int32) : Prop := if isQ M x = true then bst M false (inS M (some (ixN x)) (-1)) 200 r else r = -1
def hdS (M : Mt) (last : Bool) (p r : Int32) : Prop := if posF p = true then bst M last (inS M none p) 200 r else r = -1
def bhB (M : Mt) (x p : Int32) : Bool := posF p && isQ M x && decide (p ∈ tkM M (ixN x))
def bhS (M : Mt) (x p r : Int32) : Prop := if bhB M x p = true then bst M false (inS M (some (ixN x)) p) 200 r else r = -1
def hsS (M : Mt) (x r : Int32) : Prop := ∃ b : Bool, r = bI b ∧ (b = true ↔ isQ M x = true ∧ ∀ p ∈ tkM M (ixN x), bst M false (inS M none p) 200 (nI (ixN x)))
def szV (M : Mt) (p : Int32) : Int32 := if (decide (p = -1) || posF p) = true then nI ((List.range 200).filter (isOfB M p)).length else -1
def lkP (M : Mt) (i : Nat) (w : Int32) : Int32 := if w ≤ 3 then -1 else if nI (tkM M i).length ≤ w - 4 then -1 else ((tkM M i)[(w - 4).toNatClampNeg]?).getD 0
def lkV (M : Mt) (x w : Int32) : Int32 := if itemF x = true then (if w = 0 then bI (qdM M (ixN x)) else if w = 1 then (if qdM M (ixN x) = true then prM M (ixN x) else 0) else if w = 2 then (if qdM M (ixN x) = true then arM M (ixN x) else 0) else if w = 3 then nI (tkM M (ixN x)).length else lkP M (ixN x) w) else -1
def lnS (M : Mt) (r : Int32) : Prop := ∃ L : List Int32, r = nI L.length ∧ L.Nodup ∧ ∀ p, p ∈ L ↔ ∃ i, i < 200 ∧ p ∈ tkM M i ∧ bst M false (inS M none p) 200 (nI i)
theorem filt_succ {f : Nat → Bool} {k : Nat} : ((List.range (k + 1)).filter f).length = ((List.range k).filter f).length + (if f k = true then 1 else 0) := by
  rw [List.range_succ, List.filter_append, List.length_append]
  congr 1
  cases h : f k <;> simp [h]

set_option maxHeartbeats 4000000 in
set_option maxRecDepth 100000 in
theorem c_Model_first (l : Launch) (D : jD) (N0 : Nat) {tt : jT} {mi : jI} {mr : jR} {md aq ap aa am ak : Nat} {M : Mt} (h : MR tt mi mr md aq ap aa am ak M) (hM : MI M) : Ct l D N0 3 0 0 y_Model_first b_Model_first 1 (some .int) [va_rf (some md)] tt mi mr (ask tt mi mr (bst M false (inS M none (-1)) 200)) := by
  refine Ct.of "OrderDeskModel" (by decide +kernel) rfl (by simp [cat_rf, cat_int]) (Nat.le_of_ble_eq_true rfl) (fun X hXl hXd hXn C E I hWT => ?_)
  subst hXl hXd hXn
  obtain ⟨⟨tmd, hq0, hp0, ha0, hm0, hk0⟩, ⟨tq, tp, ta, tm, tk, npa, npm, nam⟩, hN, hR⟩ := id h
  have hlen : ∀ i, i < 200 → (tkM M i).length ≤ 8 := fun i hi => (hM.1 i hi).2.1
  refine j_aload_n C d_Model_first_0 rfl ?_
  refine j_iconst (v := (-1)) C d_Model_first_1 (by decide) ?_
  refine j_iconst (v := (-1)) C d_Model_first_2 (by decide) ?_
  refine j_iconst (v := 0) C d_Model_first_3 (by decide) ?_
  refine j_callV C [.int (-1), .int (-1), .int (bI false)] d_Model_first_4 ml_Model_61 mv_Model_nearest k_Model_nearest ⟨_, _, rfl⟩ tmd (c_Model_nearest _ _ _ h hM (a := none) (fun i z => by cases z) rfl (-1) false) (by decide) (by decide) rfl (Nat.le_of_ble_eq_true rfl) (Nat.le_of_ble_eq_true rfl) rfl (by simp [cat_rf, cat_int]) (fun v4 tt4 mi4 mr4 p4 => ?_)
  obtain ⟨rfl, rfl, rfl, r, rfl, hb⟩ := p4
  change J X _ _ _ 0 0 7 _ [.int r]
  refine j_iret C E rfl rfl d_Model_first_7 ?_
  exact ⟨rfl, rfl, rfl, r, rfl, hb⟩

set_option maxHeartbeats 4000000 in
set_option maxRecDepth 100000 in
theorem c_Model_next (l : Launch) (D : jD) (N0 : Nat) {tt : jT} {mi : jI} {mr : jR} {md aq ap aa am ak : Nat} {M : Mt} (h : MR tt mi mr md aq ap aa am ak M) (hM : MI M) (x : Int32) : Ct l D N0 3 0 0 y_Model_next b_Model_next 2 (some .int) [va_rf (some md), .int x] tt mi mr (ask tt mi mr (nxS M x)) := by
  refine Ct.of "OrderDeskModel" (by decide +kernel) rfl (by simp [cat_rf, cat_int]) (Nat.le_of_ble_eq_true rfl) (fun X hXl hXd hXn C E I hWT => ?_)
  subst hXl hXd hXn
  obtain ⟨⟨tmd, hq0, hp0, ha0, hm0, hk0⟩, ⟨tq, tp, ta, tm, tk, npa, npm, nam⟩, hN, hR⟩ := id h
  have hlen : ∀ i, i < 200 → (tkM M i).length ≤ 8 := fun i hi => (hM.1 i hi).2.1
  refine j_aload_n C d_Model_next_0 rfl ?_
  refine j_iload_n C d_Model_next_1 rfl ?_
  refine j_callVi C [.int x] d_Model_next_2 ml_Model_41 mv_Model_isQueued k_Model_isQueued ⟨_, _, rfl⟩ tmd (c_Model_isQueued _ _ _ h x) (by decide) (by decide) rfl (Nat.le_of_ble_eq_true rfl) (Nat.le_of_ble_eq_true rfl) rfl (by simp [cat_rf, cat_int]) ?_
  refine j_if_eq (tgt := 18) C d_Model_next_5 (by decide) (fun c5 => ?_) (fun c5 => ?_)
  · skip
    rw [bI_0] at c5
    refine j_iconst (v := (-1)) C d_Model_next_18 (by decide) ?_
    refine j_iret C E rfl rfl d_Model_next_19 ?_
    exact ⟨rfl, rfl, rfl, -1, rfl, by rw [nxS, if_neg (by rw [c5]; decide)]⟩
  · skip
    rw [bI_0, Bool.not_eq_false] at c5
    have hQ2 : itemF x = true ∧ qdM M (ixN x) = true := by simpa [isQ] using c5
    obtain ⟨hi, hix⟩ : ixN x < 200 ∧ x = nI (ixN x) := itemF_spec hQ2.1
    refine j_aload_n C d_Model_next_8 rfl ?_
    refine j_iload_n C d_Model_next_9 rfl ?_
    refine j_iconst (v := (-1)) C d_Model_next_10 (by decide) ?_
    refine j_iconst (v := 0) C d_Model_next_11 (by decide) ?_
    refine j_callV C [.int (x), .int (-1), .int (bI false)] d_Model_next_12 ml_Model_61 mv_Model_nearest k_Model_nearest ⟨_, _, rfl⟩ tmd (c_Model_nearest _ _ _ h hM (a := some (ixN x)) (fun i z => by cases z; exact hi) hix (-1) false) (by decide) (by decide) rfl (Nat.le_of_ble_eq_true rfl) (Nat.le_of_ble_eq_true rfl) rfl (by simp [cat_rf, cat_int]) (fun v12 tt12 mi12 mr12 p12 => ?_)
    obtain ⟨rfl, rfl, rfl, r, rfl, hb⟩ := p12
    change J X _ _ _ 0 0 15 _ [.int r]
    refine j_goto (tgt := 19) C d_Model_next_15 (by decide) ?_
    refine j_iret C E rfl rfl d_Model_next_19 ?_
    exact ⟨rfl, rfl, rfl, r, rfl, by rw [nxS, if_pos c5]; exact hb⟩

set_option maxHeartbeats 4000000 in
set_option maxRecDepth 100000 in
theorem c_Model_head (l : Launch) (D : jD) (N0 : Nat) {tt : jT} {mi : jI} {mr : jR} {md aq ap aa am ak : Nat} {M : Mt} (h : MR tt mi mr md aq ap aa am ak M) (hM : MI M) (x : Int32) : Ct l D N0 3 0 0 y_Model_head b_Model_head 2 (some .int) [va_rf (some md), .int x] tt mi mr (ask tt mi mr (hdS M false x)) := by
  refine Ct.of "OrderDeskModel" (by decide +kernel) rfl (by simp [cat_rf, cat_int]) (Nat.le_of_ble_eq_true rfl) (fun X hXl hXd hXn C E I hWT => ?_)
  subst hXl hXd hXn
  obtain ⟨⟨tmd, hq0, hp0, ha0, hm0, hk0⟩, ⟨tq, tp, ta, tm, tk, npa, npm, nam⟩, hN, hR⟩ := id h
  have hlen : ∀ i, i < 200 → (tkM M i).length ≤ 8 := fun i hi => (hM.1 i hi).2.1
  refine j_iload_n C d_Model_head_0 rfl ?_
  refine j_callSi C [.int x] d_Model_head_1 ml_Model_31 ms_Model_isPosition k_Model_isPosition (c_Model_isPosition _ _ _ x) (by decide) (by decide) rfl (Nat.le_of_ble_eq_true rfl) (Nat.le_of_ble_eq_true rfl) rfl (by simp [cat_rf, cat_int]) ?_
  refine j_if_eq (tgt := 17) C d_Model_head_4 (by decide) (fun c4 => ?_) (fun c4 => ?_)
  · skip
    rw [bI_0, posG_eq] at c4
    refine j_iconst (v := (-1)) C d_Model_head_17 (by decide) ?_
    refine j_iret C E rfl rfl d_Model_head_18 ?_
    exact ⟨rfl, rfl, rfl, -1, rfl, by rw [hdS, if_neg (by rw [c4]; decide)]⟩
  · skip
    rw [bI_0, Bool.not_eq_false, posG_eq] at c4
    refine j_aload_n C d_Model_head_7 rfl ?_
    refine j_iconst (v := (-1)) C d_Model_head_8 (by decide) ?_
    refine j_iload_n C d_Model_head_9 rfl ?_
    refine j_iconst (v := 0) C d_Model_head_10 (by decide) ?_
    refine j_callV C [.int (-1), .int (x), .int (bI false)] d_Model_head_11 ml_Model_61 mv_Model_nearest k_Model_nearest ⟨_, _, rfl⟩ tmd (c_Model_nearest _ _ _ h hM (a := none) (fun i z => by cases z) rfl (x) false) (by decide) (by decide) rfl (Nat.le_of_ble_eq_true rfl) (Nat.le_of_ble_eq_true rfl) rfl (by simp [cat_rf, cat_int]) (fun v11 tt11 mi11 mr11 p11 => ?_)
    obtain ⟨rfl, rfl, rfl, r, rfl, hb⟩ := p11
    change J X _ _ _ 0 0 14 _ [.int r]
    refine j_goto (tgt := 18) C d_Model_head_14 (by decide) ?_
    refine j_iret C E rfl rfl d_Model_head_18 ?_
    exact ⟨rfl, rfl, rfl, r, rfl, by rw [hdS, if_pos c4]; exact hb⟩

set_option maxHeartbeats 4000000 in
set_option maxRecDepth 100000 in
theorem c_Model_last (l : Launch) (D : jD) (N0 : Nat) {tt : jT} {mi : jI} {mr : jR} {md aq ap aa am ak : Nat} {M : Mt} (h : MR tt mi mr md aq ap aa am ak M) (hM : MI M) (x : Int32) : Ct l D N0 3 0 0 y_Model_last b_Model_last 2 (some .int) [va_rf (some md), .int x] tt mi mr (ask tt mi mr (hdS M true x)) := by
  refine Ct.of "OrderDeskModel" (by decide +kernel) rfl (by simp [cat_rf, cat_int]) (Nat.le_of_ble_eq_true rfl) (fun X hXl hXd hXn C E I hWT => ?_)
  subst hXl hXd hXn
  obtain ⟨⟨tmd, hq0, hp0, ha0, hm0, hk0⟩, ⟨tq, tp, ta, tm, tk, npa, npm, nam⟩, hN, hR⟩ := id h
  have hlen : ∀ i, i < 200 → (tkM M i).length ≤ 8 := fun i hi => (hM.1 i hi).2.1
  refine j_iload_n C d_Model_last_0 rfl ?_
  refine j_callSi C [.int x] d_Model_last_1 ml_Model_31 ms_Model_isPosition k_Model_isPosition (c_Model_isPosition _ _ _ x) (by decide) (by decide) rfl (Nat.le_of_ble_eq_true rfl) (Nat.le_of_ble_eq_true rfl) rfl (by simp [cat_rf, cat_int]) ?_
  refine j_if_eq (tgt := 17) C d_Model_last_4 (by decide) (fun c4 => ?_) (fun c4 => ?_)
  · skip
    rw [bI_0, posG_eq] at c4
    refine j_iconst (v := (-1)) C d_Model_last_17 (by decide) ?_
    refine j_iret C E rfl rfl d_Model_last_18 ?_
    exact ⟨rfl, rfl, rfl, -1, rfl, by rw [hdS, if_neg (by rw [c4]; decide)]⟩
  · skip
    rw [bI_0, Bool.not_eq_false, posG_eq] at c4
    refine j_aload_n C d_Model_last_7 rfl ?_
    refine j_iconst (v := (-1)) C d_Model_last_8 (by decide) ?_
    refine j_iload_n C d_Model_last_9 rfl ?_
    refine j_iconst (v := 1) C d_Model_last_10 (by decide) ?_
    refine j_callV C [.int (-1), .int (x), .int (bI true)] d_Model_last_11 ml_Model_61 mv_Model_nearest k_Model_nearest ⟨_, _, rfl⟩ tmd (c_Model_nearest _ _ _ h hM (a := none) (fun i z => by cases z) rfl (x) true) (by decide) (by decide) rfl (Nat.le_of_ble_eq_true rfl) (Nat.le_of_ble_eq_true rfl) rfl (by simp [cat_rf, cat_int]) (fun v11 tt11 mi11 mr11 p11 => ?_)
    obtain ⟨rfl, rfl, rfl, r, rfl, hb⟩ := p11
    change J X _ _ _ 0 0 14 _ [.int r]
    refine j_goto (tgt := 18) C d_Model_last_14 (by decide) ?_
    refine j_iret C E rfl rfl d_Model_last_18 ?_
    exact ⟨rfl, rfl, rfl, r, rfl, by rw [hdS, if_pos c4]; exact hb⟩

set_option maxHeartbeats 4000000 in
set_option maxRecDepth 100000 in
theorem c_Model_behind (l : Launch) (D : jD) (N0 : Nat) {tt : jT} {mi : jI} {mr : jR} {md aq ap aa am ak : Nat} {M : Mt} (h : MR tt mi mr md aq ap aa am ak M) (hM : MI M) (x p : Int32) : Ct l D N0 3 0 0 y_Model_behind b_Model_behind 3 (some .int) [va_rf (some md), .int x, .int p] tt mi mr (ask tt mi mr (bhS M x p)) := by
  refine Ct.of "OrderDeskModel" (by decide +kernel) rfl (by simp [cat_rf, cat_int]) (Nat.le_of_ble_eq_true rfl) (fun X hXl hXd hXn C E I hWT => ?_)
  subst hXl hXd hXn
  obtain ⟨⟨tmd, hq0, hp0, ha0, hm0, hk0⟩, ⟨tq, tp, ta, tm, tk, npa, npm, nam⟩, hN, hR⟩ := id h
  have hlen : ∀ i, i < 200 → (tkM M i).length ≤ 8 := fun i hi => (hM.1 i hi).2.1
  refine j_iload_n C d_Model_behind_0 rfl ?_
  refine j_callSi C [.int p] d_Model_behind_1 ml_Model_31 ms_Model_isPosition k_Model_isPosition (c_Model_isPosition _ _ _ p) (by decide) (by decide) rfl (Nat.le_of_ble_eq_true rfl) (Nat.le_of_ble_eq_true rfl) rfl (by simp [cat_rf, cat_int]) ?_
  refine j_if_eq (tgt := 34) C d_Model_behind_4 (by decide) (fun c4 => ?_) (fun c4 => ?_)
  · skip
    rw [bI_0, posG_eq] at c4
    refine j_iconst (v := (-1)) C d_Model_behind_34 (by decide) ?_
    refine j_iret C E rfl rfl d_Model_behind_35 ?_
    have hbb : bhB M x p = false := by first | (simp [bhB, c4]; done) | (simp [bhB, c12]; done) | simp [bhB, c21]
    exact ⟨rfl, rfl, rfl, -1, rfl, by rw [bhS, if_neg (by rw [hbb]; decide)]⟩
  · skip
    rw [bI_0, Bool.not_eq_false, posG_eq] at c4
    refine j_aload_n C d_Model_behind_7 rfl ?_
    refine j_iload_n C d_Model_behind_8 rfl ?_
    refine j_callVi C [.int x] d_Model_behind_9 ml_Model_41 mv_Model_isQueued k_Model_isQueued ⟨_, _, rfl⟩ tmd (c_Model_isQueued _ _ _ h x) (by decide) (by decide) rfl (Nat.le_of_ble_eq_true rfl) (Nat.le_of_ble_eq_true rfl) rfl (by simp [cat_rf, cat_int]) ?_
    refine j_if_eq (tgt := 34) C d_Model_behind_12 (by decide) (fun c12 => ?_) (fun c12 => ?_)
    · skip
      rw [bI_0] at c12
      refine j_iconst (v := (-1)) C d_Model_behind_34 (by decide) ?_
      refine j_iret C E rfl rfl d_Model_behind_35 ?_
      have hbb : bhB M x p = false := by first | (simp [bhB, c4]; done) | (simp [bhB, c12]; done) | simp [bhB, c21]
      exact ⟨rfl, rfl, rfl, -1, rfl, by rw [bhS, if_neg (by rw [hbb]; decide)]⟩
    · skip
      rw [bI_0, Bool.not_eq_false] at c12
      have hQ2 : itemF x = true ∧ qdM M (ixN x) = true := by simpa [isQ] using c12
      obtain ⟨hi, hix⟩ : ixN x < 200 ∧ x = nI (ixN x) := itemF_spec hQ2.1
      refine j_aload_n C d_Model_behind_15 rfl ?_
      refine j_iload_n C d_Model_behind_16 rfl ?_
      refine j_iload_n C d_Model_behind_17 rfl ?_
      refine j_callVi C [.int x, .int p] d_Model_behind_18 ml_Model_34 mv_Model_takesFrom k_Model_takesFrom ⟨_, _, rfl⟩ tmd (c_Model_takesFrom _ _ _ h hlen hi hix p) (by decide) (by decide) rfl (Nat.le_of_ble_eq_true rfl) (Nat.le_of_ble_eq_true rfl) rfl (by simp [cat_rf, cat_int]) ?_
      refine j_if_eq (tgt := 34) C d_Model_behind_21 (by decide) (fun c21 => ?_) (fun c21 => ?_)
      · skip
        rw [bI_0, decide_eq_false_iff_not] at c21
        refine j_iconst (v := (-1)) C d_Model_behind_34 (by decide) ?_
        refine j_iret C E rfl rfl d_Model_behind_35 ?_
        have hbb : bhB M x p = false := by first | (simp [bhB, c4]; done) | (simp [bhB, c12]; done) | simp [bhB, c21]
        exact ⟨rfl, rfl, rfl, -1, rfl, by rw [bhS, if_neg (by rw [hbb]; decide)]⟩
      · skip
        rw [bI_0, Bool.not_eq_false, decide_eq_true_eq] at c21
        refine j_aload_n C d_Model_behind_24 rfl ?_
        refine j_iload_n C d_Model_behind_25 rfl ?_
        refine j_iload_n C d_Model_behind_26 rfl ?_
        refine j_iconst (v := 0) C d_Model_behind_27 (by decide) ?_
        refine j_callV C [.int (x), .int (p), .int (bI false)] d_Model_behind_28 ml_Model_61 mv_Model_nearest k_Model_nearest ⟨_, _, rfl⟩ tmd (c_Model_nearest _ _ _ h hM (a := some (ixN x)) (fun i z => by cases z; exact hi) hix (p) false) (by decide) (by decide) rfl (Nat.le_of_ble_eq_true rfl) (Nat.le_of_ble_eq_true rfl) rfl (by simp [cat_rf, cat_int]) (fun v28 tt28 mi28 mr28 p28 => ?_)
        obtain ⟨rfl, rfl, rfl, r, rfl, hb⟩ := p28
        change J X _ _ _ 0 0 31 _ [.int r]
        refine j_goto (tgt := 35) C d_Model_behind_31 (by decide) ?_
        refine j_iret C E rfl rfl d_Model_behind_35 ?_
        have hbb : bhB M x p = true := by simp [bhB, c4, c12, c21]
        exact ⟨rfl, rfl, rfl, r, rfl, by rw [bhS, if_pos hbb]; exact hb⟩

set_option maxHeartbeats 4000000 in
set_option maxRecDepth 100000 in
theorem c_Model_before (l : Launch) (D : jD) (N0 : Nat) {tt : jT} {mi : jI} {mr : jR} {md aq ap aa am ak : Nat} {M : Mt} (h : MR tt mi mr md aq ap aa am ak M) (hM : MI M) (x y : Int32) : Ct l D N0 2 0 0 y_Model_before b_Model_before 3 (some .boolean) [va_rf (some md), .int x, .int y] tt mi mr (pI (bI (isQ M x && isQ M y && befM M (ixN x) (ixN y))) tt mi mr) := by
  refine Ct.of "OrderDeskModel" (by decide +kernel) rfl (by simp [cat_rf, cat_int]) (Nat.le_of_ble_eq_true rfl) (fun X hXl hXd hXn C E I hWT => ?_)
  subst hXl hXd hXn
  obtain ⟨⟨tmd, hq0, hp0, ha0, hm0, hk0⟩, ⟨tq, tp, ta, tm, tk, npa, npm, nam⟩, hN, hR⟩ := id h
  have hlen : ∀ i, i < 200 → (tkM M i).length ≤ 8 := fun i hi => (hM.1 i hi).2.1
  refine j_aload_n C d_Model_before_0 rfl ?_
  refine j_iload_n C d_Model_before_1 rfl ?_
  refine j_callVi C [.int x] d_Model_before_2 ml_Model_41 mv_Model_isQueued k_Model_isQueued ⟨_, _, rfl⟩ tmd (c_Model_isQueued _ _ _ h x) (by decide) (by decide) rfl (Nat.le_of_ble_eq_true rfl) (Nat.le_of_ble_eq_true rfl) rfl (by simp [cat_rf, cat_int]) ?_
  refine j_if_eq (tgt := 29) C d_Model_before_5 (by decide) (fun c5 => ?_) (fun c5 => ?_)
  · skip
    rw [bI_0] at c5
    refine j_iconst (v := 0) C d_Model_before_29 (by decide) ?_
    refine j_iret C E rfl (by first | rfl | exact nar_bI _) d_Model_before_30 ?_
    refine ⟨?_, rfl, rfl, rfl⟩
    first | (simp [c5, bI]; done) | (simp [c13, bI]; done) | (simp [c22, bI]; done) | simp [c5, c13, c22, bI]
  · skip
    rw [bI_0, Bool.not_eq_false] at c5
    have hQ2 : itemF x = true ∧ qdM M (ixN x) = true := by simpa [isQ] using c5
    obtain ⟨hi, hix⟩ : ixN x < 200 ∧ x = nI (ixN x) := itemF_spec hQ2.1
    refine j_aload_n C d_Model_before_8 rfl ?_
    refine j_iload_n C d_Model_before_9 rfl ?_
    refine j_callVi C [.int y] d_Model_before_10 ml_Model_41 mv_Model_isQueued k_Model_isQueued ⟨_, _, rfl⟩ tmd (c_Model_isQueued _ _ _ h y) (by decide) (by decide) rfl (Nat.le_of_ble_eq_true rfl) (Nat.le_of_ble_eq_true rfl) rfl (by simp [cat_rf, cat_int]) ?_
    refine j_if_eq (tgt := 29) C d_Model_before_13 (by decide) (fun c13 => ?_) (fun c13 => ?_)
    · skip
      rw [bI_0] at c13
      refine j_iconst (v := 0) C d_Model_before_29 (by decide) ?_
      refine j_iret C E rfl (by first | rfl | exact nar_bI _) d_Model_before_30 ?_
      refine ⟨?_, rfl, rfl, rfl⟩
      first | (simp [c5, bI]; done) | (simp [c13, bI]; done) | (simp [c22, bI]; done) | simp [c5, c13, c22, bI]
    · skip
      rw [bI_0, Bool.not_eq_false] at c13
      have hR2 : itemF y = true ∧ qdM M (ixN y) = true := by simpa [isQ] using c13
      obtain ⟨hj, hjy⟩ : ixN y < 200 ∧ y = nI (ixN y) := itemF_spec hR2.1
      refine j_aload_n C d_Model_before_16 rfl ?_
      refine j_iload_n C d_Model_before_17 rfl ?_
      refine j_iload_n C d_Model_before_18 rfl ?_
      refine j_callVi C [.int x, .int y] d_Model_before_19 ml_Model_58 mv_Model_stands k_Model_stands ⟨_, _, rfl⟩ tmd (c_Model_stands _ _ _ h hi hix hj hjy) (by decide) (by decide) rfl (Nat.le_of_ble_eq_true rfl) (Nat.le_of_ble_eq_true rfl) rfl (by simp [cat_rf, cat_int]) ?_
      refine j_if_eq (tgt := 29) C d_Model_before_22 (by decide) (fun c22 => ?_) (fun c22 => ?_)
      · skip
        rw [bI_0] at c22
        refine j_iconst (v := 0) C d_Model_before_29 (by decide) ?_
        refine j_iret C E rfl (by first | rfl | exact nar_bI _) d_Model_before_30 ?_
        refine ⟨?_, rfl, rfl, rfl⟩
        first | (simp [c5, bI]; done) | (simp [c13, bI]; done) | (simp [c22, bI]; done) | simp [c5, c13, c22, bI]
      · skip
        rw [bI_0, Bool.not_eq_false] at c22
        refine j_iconst (v := 1) C d_Model_before_25 (by decide) ?_
        refine j_goto (tgt := 30) C d_Model_before_26 (by decide) ?_
        refine j_iret C E rfl (by first | rfl | exact nar_bI _) d_Model_before_30 ?_
        refine ⟨?_, rfl, rfl, rfl⟩
        first | (simp [c5, bI]; done) | (simp [c13, bI]; done) | (simp [c22, bI]; done) | simp [c5, c13, c22, bI]

set_option maxHeartbeats 4000000 in
set_option maxRecDepth 100000 in
theorem c_Model_heads (l : Launch) (D : jD) (N0 : Nat) {tt : jT} {mi : jI} {mr : jR} {md aq ap aa am ak : Nat} {M : Mt} (h : MR tt mi mr md aq ap aa am ak M) (hM : MI M) (x : Int32) : Ct l D N0 3 0 0 y_Model_heads b_Model_heads 3 (some .boolean) [va_rf (some md), .int x] tt mi mr (ask tt mi mr (hsS M x)) := by
  refine Ct.of "OrderDeskModel" (by decide +kernel) rfl (by simp [cat_rf, cat_int]) (Nat.le_of_ble_eq_true rfl) (fun X hXl hXd hXn C E I hWT => ?_)
  subst hXl hXd hXn
  obtain ⟨⟨tmd, hq0, hp0, ha0, hm0, hk0⟩, ⟨tq, tp, ta, tm, tk, npa, npm, nam⟩, hN, hR⟩ := id h
  have hlen : ∀ i, i < 200 → (tkM M i).length ≤ 8 := fun i hi => (hM.1 i hi).2.1
  refine j_aload_n C d_Model_heads_0 rfl ?_
  refine j_iload_n C d_Model_heads_1 rfl ?_
  refine j_callVi C [.int x] d_Model_heads_2 ml_Model_41 mv_Model_isQueued k_Model_isQueued ⟨_, _, rfl⟩ tmd (c_Model_isQueued _ _ _ h x) (by decide) (by decide) rfl (Nat.le_of_ble_eq_true rfl) (Nat.le_of_ble_eq_true rfl) rfl (by simp [cat_rf, cat_int]) ?_
  refine j_if_ne (tgt := 10) C d_Model_heads_5 (by decide) (fun c5 => ?_) (fun c5 => ?_)
  · skip
    rw [bI_0, Bool.not_eq_false] at c5
    have hQ2 : itemF x = true ∧ qdM M (ixN x) = true := by simpa [isQ] using c5
    obtain ⟨hi, hix⟩ : ixN x < 200 ∧ x = nI (ixN x) := itemF_spec hQ2.1
    obtain ⟨i, hie⟩ : ∃ i, i = ixN x := ⟨_, rfl⟩
    rw [← hie] at hi hix
    have hx := hix
    have hxi : ixN x = i := hie.symm
    have hQ := c5
    have hl8 := hlen i hi
    have hv := (hR i hi).2.2.2.2
    have loop : ∀ (n k : Nat), k ≤ (tkM M i).length → (tkM M i).length < k + n → (∀ j p, j < k → (tkM M i)[j]? = some p → bst M false (inS M none p) 200 (nI i)) → J X tt mi mr 0 0 12 [some (va_rf (some md)), some (.int x), some (.int (nI k))] [] := by
      intro n
      induction n with
      | zero => intro k h1 h2; exact absurd h2 (by omega)
      | succ n ih =>
        intro k hk hn hinv
        refine j_iload_n C d_Model_heads_12 rfl ?_
        refine j_aload_n C d_Model_heads_13 rfl ?_
        refine j_gets C d_Model_heads_14 fl_Model_20 cl_Model rfl (by assumption) rfl hm0 (fun t14 => ?_)
        refine j_iload_n C d_Model_heads_17 rfl ?_
        refine j_iald C i d_Model_heads_18 (by assumption) hx hi (by decide) ?_
        refine j_icmp_ge (tgt := 51) C d_Model_heads_19 (by decide) (fun c19 => ?_) (fun c19 => ?_)
        · skip
          rw [(hR i hi).2.2.2.1, nI_leI (by omega) (by omega)] at c19
          refine j_iconst (v := 1) C d_Model_heads_51 (by decide) ?_
          refine j_iret C E rfl (by first | rfl | exact nar_bI _) d_Model_heads_52 ?_
          refine ⟨rfl, rfl, rfl, 1, rfl, true, rfl, ?_⟩
          rw [hxi]
          refine ⟨fun _ => ⟨hQ, fun p hp => ?_⟩, fun _ => rfl⟩
          obtain ⟨j, hj⟩ := List.getElem?_of_mem hp
          exact hinv j p (by have := (List.getElem?_eq_some_iff.mp hj).1; omega) hj
        · skip
          rw [(hR i hi).2.2.2.1, nI_leI (by omega) (by omega)] at c19
          obtain ⟨w, hw⟩ : ∃ w, (tkM M i)[k]? = some w := ⟨_, List.getElem?_eq_getElem (by omega)⟩
          refine j_aload_n C d_Model_heads_22 rfl ?_
          refine j_iconst (v := (-1)) C d_Model_heads_23 (by decide) ?_
          refine j_aload_n C d_Model_heads_24 rfl ?_
          refine j_gets C d_Model_heads_25 fl_Model_23 cl_Model rfl (by assumption) rfl hk0 (fun t25 => ?_)
          refine j_bipush (v := 8) C d_Model_heads_28 (by decide) ?_
          refine j_iload_n C d_Model_heads_30 rfl ?_
          refine j_imul C d_Model_heads_31 ?_
          refine j_iload_n C d_Model_heads_32 rfl ?_
          refine j_iadd C d_Model_heads_33 ?_
          refine j_iald C (8 * i + k) d_Model_heads_34 (by assumption) (by rw [hx]; exact m8 i k) (by omega) (by decide) ?_
          refine j_iconst (v := 0) C d_Model_heads_35 (by decide) ?_
          refine j_callV C [.int (-1), .int (mi ak (8 * i + k)), .int (bI false)] d_Model_heads_36 ml_Model_61 mv_Model_nearest k_Model_nearest ⟨_, _, rfl⟩ tmd (c_Model_nearest _ _ _ h hM (a := none) (fun i z => by cases z) rfl (mi ak (8 * i + k)) false) (by decide) (by decide) rfl (Nat.le_of_ble_eq_true rfl) (Nat.le_of_ble_eq_true rfl) rfl (by simp [cat_rf, cat_int]) (fun v36 tt36 mi36 mr36 p36 => ?_)
          obtain ⟨rfl, rfl, rfl, r, rfl, hb⟩ := p36
          change J X _ _ _ 0 0 39 _ [.int r]
          refine j_iload_n C d_Model_heads_39 rfl ?_
          refine j_icmp_eq (tgt := 45) C d_Model_heads_40 (by decide) (fun c40 => ?_) (fun c40 => ?_)
          · skip
            rw [hv k w hw] at hb
            rw [c40, hx] at hb
            refine j_iinc C d_Model_heads_45 rfl (nI_1 k) ?_
            refine j_goto (tgt := 12) C d_Model_heads_48 (by decide) ?_
            refine ih (k + 1) (by omega) (by omega) (fun j p hj e => ?_)
            by_cases z : j = k
            · rw [z, hw] at e
              cases e
              exact hb
            · exact hinv j p (by omega) e
          · skip
            refine j_iconst (v := 0) C d_Model_heads_43 (by decide) ?_
            refine j_iret C E rfl (by first | rfl | exact nar_bI _) d_Model_heads_44 ?_
            refine ⟨rfl, rfl, rfl, 0, rfl, false, rfl, ?_⟩
            constructor
            · intro z; cases z
            · intro z
              exfalso
              rw [hxi] at z
              have := z.2 w (List.mem_of_getElem? hw)
              rw [hv k w hw] at hb
              exact c40 (by rw [bst_uniq hb this, hx])
    refine j_iconst (v := 0) C d_Model_heads_10 (by decide) ?_
    refine j_istore_n C d_Model_heads_11 (Nat.le_of_ble_eq_true rfl) ?_
    exact loop ((tkM M i).length + 1) 0 (by omega) (by omega) (fun j p hj => absurd hj (by omega))
  · skip
    replace c5 := bI_0.mp (by simpa using c5)
    refine j_iconst (v := 0) C d_Model_heads_8 (by decide) ?_
    refine j_iret C E rfl (by first | rfl | exact nar_bI _) d_Model_heads_9 ?_
    refine ⟨rfl, rfl, rfl, 0, rfl, false, rfl, ?_⟩
    rw [c5]
    simp

set_option maxHeartbeats 4000000 in
set_option maxRecDepth 100000 in
theorem c_Model_size (l : Launch) (D : jD) (N0 : Nat) {tt : jT} {mi : jI} {mr : jR} {md aq ap aa am ak : Nat} {M : Mt} (h : MR tt mi mr md aq ap aa am ak M) (hM : MI M) (x : Int32) : Ct l D N0 2 0 0 y_Model_size b_Model_size 4 (some .int) [va_rf (some md), .int x] tt mi mr (pI (szV M x) tt mi mr) := by
  refine Ct.of "OrderDeskModel" (by decide +kernel) rfl (by simp [cat_rf, cat_int]) (Nat.le_of_ble_eq_true rfl) (fun X hXl hXd hXn C E I hWT => ?_)
  subst hXl hXd hXn
  obtain ⟨⟨tmd, hq0, hp0, ha0, hm0, hk0⟩, ⟨tq, tp, ta, tm, tk, npa, npm, nam⟩, hN, hR⟩ := id h
  have hlen : ∀ i, i < 200 → (tkM M i).length ≤ 8 := fun i hi => (hM.1 i hi).2.1
  refine j_iload_n C d_Model_size_0 rfl ?_
  refine j_iconst (v := (-1)) C d_Model_size_1 (by decide) ?_
  refine j_icmp_eq (tgt := 14) C d_Model_size_2 (by decide) (fun c2 => ?_) (fun c2 => ?_)
  · skip
    have hc : (decide (x = -1) || posF x) = true := by simp [c2]
    have loop : ∀ (n k : Nat), k ≤ 200 → 200 < k + n → J X tt mi mr 0 0 18 [some (va_rf (some md)), some (.int x), some (.int (nI ((List.range k).filter (isOfB M x)).length)), some (.int (nI k))] [] := by
      intro n
      induction n with
      | zero => intro k h1 h2; exact absurd h2 (by omega)
      | succ n ih =>
        intro k hk hn
        refine j_iload_n C d_Model_size_18 rfl ?_
        refine j_sipush (v := 200) C d_Model_size_19 (by decide) ?_
        refine j_icmp_ge (tgt := 48) C d_Model_size_22 (by decide) (fun c22 => ?_) (fun c22 => ?_)
        · skip
          rw [show (200 : Int32) = nI 200 from rfl, nI_leI (by omega) (by omega)] at c22
          have ek : k = 200 := by omega
          subst ek
          refine j_iload_n C d_Model_size_48 rfl ?_
          refine j_iret C E rfl rfl d_Model_size_49 ?_
          exact ⟨by rw [szV, if_pos hc], rfl, rfl, rfl⟩
        · skip
          rw [show (200 : Int32) = nI 200 from rfl, nI_leI (by omega) (by omega)] at c22
          refine j_iload_n C d_Model_size_25 rfl ?_
          refine j_aload_n C d_Model_size_26 rfl ?_
          refine j_iload_n C d_Model_size_27 rfl ?_
          refine j_iload_n C d_Model_size_28 rfl ?_
          refine j_callVi C [.int (nI k), .int x] d_Model_size_29 ml_Model_55 mv_Model_isOf k_Model_isOf ⟨_, _, rfl⟩ tmd (c_Model_isOf _ _ _ h hlen (by omega) rfl x) (by decide) (by decide) rfl (Nat.le_of_ble_eq_true rfl) (Nat.le_of_ble_eq_true rfl) rfl (by simp [cat_rf, cat_int]) ?_
          refine j_if_eq (tgt := 39) C d_Model_size_32 (by decide) (fun c32 => ?_) (fun c32 => ?_)
          · skip
            rw [bI_0] at c32
            have hst : nI ((List.range k).filter (isOfB M x)).length + 0 = nI ((List.range (k + 1)).filter (isOfB M x)).length := by rw [filt_succ, if_neg (by rw [c32]; decide)]; exact nI_add _ 0
            refine j_iconst (v := 0) C d_Model_size_39 (by decide) ?_
            refine j_iadd C d_Model_size_40 ?_
            rw [hst]
            refine j_istore_n C d_Model_size_41 (Nat.le_of_ble_eq_true rfl) ?_
            refine j_iinc C d_Model_size_42 rfl (nI_1 k) ?_
            refine j_goto (tgt := 18) C d_Model_size_45 (by decide) ?_
            exact ih (k + 1) (by omega) (by omega)
          · skip
            rw [bI_0, Bool.not_eq_false] at c32
            have hst : nI ((List.range k).filter (isOfB M x)).length + 1 = nI ((List.range (k + 1)).filter (isOfB M x)).length := by rw [filt_succ, if_pos c32]; exact nI_1 _
            refine j_iconst (v := 1) C d_Model_size_35 (by decide) ?_
            refine j_goto (tgt := 40) C d_Model_size_36 (by decide) ?_
            refine j_iadd C d_Model_size_40 ?_
            rw [hst]
            refine j_istore_n C d_Model_size_41 (Nat.le_of_ble_eq_true rfl) ?_
            refine j_iinc C d_Model_size_42 rfl (nI_1 k) ?_
            refine j_goto (tgt := 18) C d_Model_size_45 (by decide) ?_
            exact ih (k + 1) (by omega) (by omega)
    refine j_iconst (v := 0) C d_Model_size_14 (by decide) ?_
    refine j_istore_n C d_Model_size_15 (Nat.le_of_ble_eq_true rfl) ?_
    refine j_iconst (v := 0) C d_Model_size_16 (by decide) ?_
    refine j_istore_n C d_Model_size_17 (Nat.le_of_ble_eq_true rfl) ?_
    exact loop 201 0 (by omega) (by omega)
  · skip
    refine j_iload_n C d_Model_size_5 rfl ?_
    refine j_callSi C [.int x] d_Model_size_6 ml_Model_31 ms_Model_isPosition k_Model_isPosition (c_Model_isPosition _ _ _ x) (by decide) (by decide) rfl (Nat.le_of_ble_eq_true rfl) (Nat.le_of_ble_eq_true rfl) rfl (by simp [cat_rf, cat_int]) ?_
    refine j_if_ne (tgt := 14) C d_Model_size_9 (by decide) (fun c9 => ?_) (fun c9 => ?_)
    · skip
      rw [bI_0, Bool.not_eq_false, posG_eq] at c9
      have hc : (decide (x = -1) || posF x) = true := by simp [c9]
      have loop : ∀ (n k : Nat), k ≤ 200 → 200 < k + n → J X tt mi mr 0 0 18 [some (va_rf (some md)), some (.int x), some (.int (nI ((List.range k).filter (isOfB M x)).length)), some (.int (nI k))] [] := by
        intro n
        induction n with
        | zero => intro k h1 h2; exact absurd h2 (by omega)
        | succ n ih =>
          intro k hk hn
          refine j_iload_n C d_Model_size_18 rfl ?_
          refine j_sipush (v := 200) C d_Model_size_19 (by decide) ?_
          refine j_icmp_ge (tgt := 48) C d_Model_size_22 (by decide) (fun c22 => ?_) (fun c22 => ?_)
          · skip
            rw [show (200 : Int32) = nI 200 from rfl, nI_leI (by omega) (by omega)] at c22
            have ek : k = 200 := by omega
            subst ek
            refine j_iload_n C d_Model_size_48 rfl ?_
            refine j_iret C E rfl rfl d_Model_size_49 ?_
            exact ⟨by rw [szV, if_pos hc], rfl, rfl, rfl⟩
          · skip
            rw [show (200 : Int32) = nI 200 from rfl, nI_leI (by omega) (by omega)] at c22
            refine j_iload_n C d_Model_size_25 rfl ?_
            refine j_aload_n C d_Model_size_26 rfl ?_
            refine j_iload_n C d_Model_size_27 rfl ?_
            refine j_iload_n C d_Model_size_28 rfl ?_
            refine j_callVi C [.int (nI k), .int x] d_Model_size_29 ml_Model_55 mv_Model_isOf k_Model_isOf ⟨_, _, rfl⟩ tmd (c_Model_isOf _ _ _ h hlen (by omega) rfl x) (by decide) (by decide) rfl (Nat.le_of_ble_eq_true rfl) (Nat.le_of_ble_eq_true rfl) rfl (by simp [cat_rf, cat_int]) ?_
            refine j_if_eq (tgt := 39) C d_Model_size_32 (by decide) (fun c32 => ?_) (fun c32 => ?_)
            · skip
              rw [bI_0] at c32
              have hst : nI ((List.range k).filter (isOfB M x)).length + 0 = nI ((List.range (k + 1)).filter (isOfB M x)).length := by rw [filt_succ, if_neg (by rw [c32]; decide)]; exact nI_add _ 0
              refine j_iconst (v := 0) C d_Model_size_39 (by decide) ?_
              refine j_iadd C d_Model_size_40 ?_
              rw [hst]
              refine j_istore_n C d_Model_size_41 (Nat.le_of_ble_eq_true rfl) ?_
              refine j_iinc C d_Model_size_42 rfl (nI_1 k) ?_
              refine j_goto (tgt := 18) C d_Model_size_45 (by decide) ?_
              exact ih (k + 1) (by omega) (by omega)
            · skip
              rw [bI_0, Bool.not_eq_false] at c32
              have hst : nI ((List.range k).filter (isOfB M x)).length + 1 = nI ((List.range (k + 1)).filter (isOfB M x)).length := by rw [filt_succ, if_pos c32]; exact nI_1 _
              refine j_iconst (v := 1) C d_Model_size_35 (by decide) ?_
              refine j_goto (tgt := 40) C d_Model_size_36 (by decide) ?_
              refine j_iadd C d_Model_size_40 ?_
              rw [hst]
              refine j_istore_n C d_Model_size_41 (Nat.le_of_ble_eq_true rfl) ?_
              refine j_iinc C d_Model_size_42 rfl (nI_1 k) ?_
              refine j_goto (tgt := 18) C d_Model_size_45 (by decide) ?_
              exact ih (k + 1) (by omega) (by omega)
      refine j_iconst (v := 0) C d_Model_size_14 (by decide) ?_
      refine j_istore_n C d_Model_size_15 (Nat.le_of_ble_eq_true rfl) ?_
      refine j_iconst (v := 0) C d_Model_size_16 (by decide) ?_
      refine j_istore_n C d_Model_size_17 (Nat.le_of_ble_eq_true rfl) ?_
      exact loop 201 0 (by omega) (by omega)
    · skip
      replace c9 := bI_0.mp (by simpa using c9)
      rw [posG_eq] at c9
      refine j_iconst (v := (-1)) C d_Model_size_12 (by decide) ?_
      refine j_iret C E rfl rfl d_Model_size_13 ?_
      refine ⟨?_, rfl, rfl, rfl⟩
      rw [szV, if_neg]
      simp [c2, c9]

theorem w_out {w : Int32} (h0 : ¬ w = 0) (h1 : ¬ w = 1) (h2 : ¬ w = 2) (h3 : ¬ w = 3) : w.toInt < 0 ∨ 3 < w.toInt := by
  have e0 : w.toInt ≠ 0 := fun z => h0 (Int32.toInt_inj.mp (by rw [z]; decide))
  have e1 : w.toInt ≠ 1 := fun z => h1 (Int32.toInt_inj.mp (by rw [z]; decide))
  have e2 : w.toInt ≠ 2 := fun z => h2 (Int32.toInt_inj.mp (by rw [z]; decide))
  have e3 : w.toInt ≠ 3 := fun z => h3 (Int32.toInt_inj.mp (by rw [z]; decide))
  omega
set_option maxHeartbeats 4000000 in
set_option maxRecDepth 100000 in
theorem c_Model_look (l : Launch) (D : jD) (N0 : Nat) {tt : jT} {mi : jI} {mr : jR} {md aq ap aa am ak : Nat} {M : Mt} (h : MR tt mi mr md aq ap aa am ak M) (hM : MI M) (x w : Int32) : Ct l D N0 1 0 0 y_Model_look b_Model_look 3 (some .int) [va_rf (some md), .int x, .int w] tt mi mr (pI (lkV M x w) tt mi mr) := by
  refine Ct.of "OrderDeskModel" (by decide +kernel) rfl (by simp [cat_rf, cat_int]) (Nat.le_of_ble_eq_true rfl) (fun X hXl hXd hXn C E I hWT => ?_)
  subst hXl hXd hXn
  obtain ⟨⟨tmd, hq0, hp0, ha0, hm0, hk0⟩, ⟨tq, tp, ta, tm, tk, npa, npm, nam⟩, hN, hR⟩ := id h
  have hlen : ∀ i, i < 200 → (tkM M i).length ≤ 8 := fun i hi => (hM.1 i hi).2.1
  refine j_iload_n C d_Model_look_0 rfl ?_
  refine j_callSi C [.int x] d_Model_look_1 ml_Model_26 ms_Model_isItem k_Model_isItem (c_Model_isItem _ _ _ x) (by decide) (by decide) rfl (Nat.le_of_ble_eq_true rfl) (Nat.le_of_ble_eq_true rfl) rfl (by simp [cat_rf, cat_int]) ?_
  refine j_if_ne (tgt := 9) C d_Model_look_4 (by decide) (fun c4 => ?_) (fun c4 => ?_)
  · skip
    rw [bI_0, Bool.not_eq_false] at c4
    obtain ⟨hi, hix⟩ : ixN x < 200 ∧ x = nI (ixN x) := itemF_spec c4
    refine j_iload_n C d_Model_look_9 rfl ?_
    by_cases w0 : w = 0
    · subst w0
      refine j_tabIn (tgt := 40) (off := 30) C d_Model_look_10 (by decide) (by decide) rfl (by decide) ?_
      refine j_aload_n C d_Model_look_40 rfl ?_
      refine j_gets C d_Model_look_41 fl_Model_7 cl_Model rfl (by assumption) rfl hq0 (fun t41 => ?_)
      refine j_iload_n C d_Model_look_44 rfl ?_
      refine j_zald C (ixN x) d_Model_look_45 (by assumption) hix hi (by decide) ?_
      refine j_if_eq (tgt := 53) C d_Model_look_46 (by decide) (fun c46 => ?_) (fun c46 => ?_)
      · skip
        rw [(hR _ hi).1, bI_0] at c46
        refine j_iconst (v := 0) C d_Model_look_53 (by decide) ?_
        refine j_iret C E rfl rfl d_Model_look_54 ?_
        exact ⟨by simp [lkV, c4, c46, bI], rfl, rfl, rfl⟩
      · skip
        rw [(hR _ hi).1, bI_0, Bool.not_eq_false] at c46
        refine j_iconst (v := 1) C d_Model_look_49 (by decide) ?_
        refine j_goto (tgt := 54) C d_Model_look_50 (by decide) ?_
        refine j_iret C E rfl rfl d_Model_look_54 ?_
        exact ⟨by simp [lkV, c4, c46, bI], rfl, rfl, rfl⟩
    by_cases w1 : w = 1
    · subst w1
      refine j_tabIn (tgt := 55) (off := 45) C d_Model_look_10 (by decide) (by decide) rfl (by decide) ?_
      refine j_aload_n C d_Model_look_55 rfl ?_
      refine j_gets C d_Model_look_56 fl_Model_7 cl_Model rfl (by assumption) rfl hq0 (fun t56 => ?_)
      refine j_iload_n C d_Model_look_59 rfl ?_
      refine j_zald C (ixN x) d_Model_look_60 (by assumption) hix hi (by decide) ?_
      refine j_if_eq (tgt := 73) C d_Model_look_61 (by decide) (fun c61 => ?_) (fun c61 => ?_)
      · skip
        rw [(hR _ hi).1, bI_0] at c61
        refine j_iconst (v := 0) C d_Model_look_73 (by decide) ?_
        refine j_iret C E rfl rfl d_Model_look_74 ?_
        refine ⟨?_, rfl, rfl, rfl⟩
        first | (rw [(hR _ hi).2.1]; simp [lkV, c4, c61]; done) | simp [lkV, c4, c61]
      · skip
        rw [(hR _ hi).1, bI_0, Bool.not_eq_false] at c61
        refine j_aload_n C d_Model_look_64 rfl ?_
        refine j_gets C d_Model_look_65 fl_Model_13 cl_Model rfl (by assumption) rfl hp0 (fun t65 => ?_)
        refine j_iload_n C d_Model_look_68 rfl ?_
        refine j_iald C (ixN x) d_Model_look_69 (by assumption) hix hi (by decide) ?_
        refine j_goto (tgt := 74) C d_Model_look_70 (by decide) ?_
        refine j_iret C E rfl rfl d_Model_look_74 ?_
        refine ⟨?_, rfl, rfl, rfl⟩
        first | (rw [(hR _ hi).2.1]; simp [lkV, c4, c61]; done) | simp [lkV, c4, c61]
    by_cases w2 : w = 2
    · subst w2
      refine j_tabIn (tgt := 75) (off := 65) C d_Model_look_10 (by decide) (by decide) rfl (by decide) ?_
      refine j_aload_n C d_Model_look_75 rfl ?_
      refine j_gets C d_Model_look_76 fl_Model_7 cl_Model rfl (by assumption) rfl hq0 (fun t76 => ?_)
      refine j_iload_n C d_Model_look_79 rfl ?_
      refine j_zald C (ixN x) d_Model_look_80 (by assumption) hix hi (by decide) ?_
      refine j_if_eq (tgt := 93) C d_Model_look_81 (by decide) (fun c81 => ?_) (fun c81 => ?_)
      · skip
        rw [(hR _ hi).1, bI_0] at c81
        refine j_iconst (v := 0) C d_Model_look_93 (by decide) ?_
        refine j_iret C E rfl rfl d_Model_look_94 ?_
        refine ⟨?_, rfl, rfl, rfl⟩
        first | (rw [(hR _ hi).2.2.1]; simp [lkV, c4, c81]; done) | simp [lkV, c4, c81]
      · skip
        rw [(hR _ hi).1, bI_0, Bool.not_eq_false] at c81
        refine j_aload_n C d_Model_look_84 rfl ?_
        refine j_gets C d_Model_look_85 fl_Model_17 cl_Model rfl (by assumption) rfl ha0 (fun t85 => ?_)
        refine j_iload_n C d_Model_look_88 rfl ?_
        refine j_iald C (ixN x) d_Model_look_89 (by assumption) hix hi (by decide) ?_
        refine j_goto (tgt := 94) C d_Model_look_90 (by decide) ?_
        refine j_iret C E rfl rfl d_Model_look_94 ?_
        refine ⟨?_, rfl, rfl, rfl⟩
        first | (rw [(hR _ hi).2.2.1]; simp [lkV, c4, c81]; done) | simp [lkV, c4, c81]
    by_cases w3 : w = 3
    · subst w3
      refine j_tabIn (tgt := 95) (off := 85) C d_Model_look_10 (by decide) (by decide) rfl (by decide) ?_
      refine j_aload_n C d_Model_look_95 rfl ?_
      refine j_gets C d_Model_look_96 fl_Model_20 cl_Model rfl (by assumption) rfl hm0 (fun t96 => ?_)
      refine j_iload_n C d_Model_look_99 rfl ?_
      refine j_iald C (ixN x) d_Model_look_100 (by assumption) hix hi (by decide) ?_
      refine j_iret C E rfl rfl d_Model_look_101 ?_
      exact ⟨by rw [(hR _ hi).2.2.2.1]; simp [lkV, c4], rfl, rfl, rfl⟩
    refine j_tabOut (tgt := 102) C d_Model_look_10 (w_out w0 w1 w2 w3) (by decide) ?_
    refine j_iload_n C d_Model_look_102 rfl ?_
    refine j_iconst (v := 3) C d_Model_look_103 (by decide) ?_
    refine j_icmp_le (tgt := 135) C d_Model_look_104 (by decide) (fun c104 => ?_) (fun c104 => ?_)
    · skip
      refine j_iconst (v := (-1)) C d_Model_look_135 (by decide) ?_
      refine j_iret C E rfl rfl d_Model_look_136 ?_
      refine ⟨?_, rfl, rfl, rfl⟩
      first | (simp [lkV, c4, w0, w1, w2, w3, lkP, c104]; done) | (simp [lkV, c4, w0, w1, w2, w3, lkP, c104, c116]; done) | (rw [(hR _ hi).2.2.2.2 (j - 4) _ (List.getElem?_eq_getElem hjl)]; simp only [lkV, c4, w0, w1, w2, w3, lkP, c104, c116, if_true, if_false]; rw [ew4, nI_clamp (by omega), List.getElem?_eq_getElem hjl]; rfl)
    · skip
      refine j_iload_n C d_Model_look_107 rfl ?_
      refine j_iconst (v := 4) C d_Model_look_108 (by decide) ?_
      refine j_isub C d_Model_look_109 ?_
      refine j_aload_n C d_Model_look_110 rfl ?_
      refine j_gets C d_Model_look_111 fl_Model_20 cl_Model rfl (by assumption) rfl hm0 (fun t111 => ?_)
      refine j_iload_n C d_Model_look_114 rfl ?_
      refine j_iald C (ixN x) d_Model_look_115 (by assumption) hix hi (by decide) ?_
      refine j_icmp_ge (tgt := 135) C d_Model_look_116 (by decide) (fun c116 => ?_) (fun c116 => ?_)
      · skip
        rw [(hR _ hi).2.2.2.1] at c116
        refine j_iconst (v := (-1)) C d_Model_look_135 (by decide) ?_
        refine j_iret C E rfl rfl d_Model_look_136 ?_
        refine ⟨?_, rfl, rfl, rfl⟩
        first | (simp [lkV, c4, w0, w1, w2, w3, lkP, c104]; done) | (simp [lkV, c4, w0, w1, w2, w3, lkP, c104, c116]; done) | (rw [(hR _ hi).2.2.2.2 (j - 4) _ (List.getElem?_eq_getElem hjl)]; simp only [lkV, c4, w0, w1, w2, w3, lkP, c104, c116, if_true, if_false]; rw [ew4, nI_clamp (by omega), List.getElem?_eq_getElem hjl]; rfl)
      · skip
        rw [(hR _ hi).2.2.2.1] at c116
        obtain ⟨j, hj, ew⟩ := nI_of (x := w) (fun z => c104 (Int32.le_of_lt (Int32.lt_trans z (by decide))))
        have hj4 : 4 ≤ j := by
          rw [ew, show (3 : Int32) = nI 3 from rfl, nI_leI (by omega) (by omega)] at c104
          omega
        have ew4 : w - 4 = nI (j - 4) := by rw [ew, show (4 : Int32) = nI 4 from rfl]; exact pk_sub hj4
        have hjl : j - 4 < (tkM M (ixN x)).length := by
          rw [ew4, nI_leI (by have := hlen _ hi; omega) (by omega)] at c116
          omega
        refine j_aload_n C d_Model_look_119 rfl ?_
        refine j_gets C d_Model_look_120 fl_Model_23 cl_Model rfl (by assumption) rfl hk0 (fun t120 => ?_)
        refine j_bipush (v := 8) C d_Model_look_123 (by decide) ?_
        refine j_iload_n C d_Model_look_125 rfl ?_
        refine j_imul C d_Model_look_126 ?_
        refine j_iload_n C d_Model_look_127 rfl ?_
        refine j_iadd C d_Model_look_128 ?_
        refine j_iconst (v := 4) C d_Model_look_129 (by decide) ?_
        refine j_isub C d_Model_look_130 ?_
        refine j_iald C (8 * ixN x + (j - 4)) d_Model_look_131 (by assumption) (by rw [hix, ew, show (4 : Int32) = nI 4 from rfl, show (8 : Int32) = nI 8 from rfl, pk_mul, nI_add, pk_sub (by omega)]; congr 1; rw [← hix]; omega) (by have := hlen _ hi; omega) (by decide) ?_
        refine j_goto (tgt := 136) C d_Model_look_132 (by decide) ?_
        refine j_iret C E rfl rfl d_Model_look_136 ?_
        refine ⟨?_, rfl, rfl, rfl⟩
        first | (simp [lkV, c4, w0, w1, w2, w3, lkP, c104]; done) | (simp [lkV, c4, w0, w1, w2, w3, lkP, c104, c116]; done) | (rw [(hR _ hi).2.2.2.2 (j - 4) _ (List.getElem?_eq_getElem hjl)]; simp only [lkV, c4, w0, w1, w2, w3, lkP, c104, c116, if_true, if_false]; rw [ew4, nI_clamp (by omega), List.getElem?_eq_getElem hjl]; rfl)
  · skip
    replace c4 := bI_0.mp (by simpa using c4)
    refine j_iconst (v := (-1)) C d_Model_look_7 (by decide) ?_
    refine j_iret C E rfl rfl d_Model_look_8 ?_
    exact ⟨by simp [lkV, c4], rfl, rfl, rfl⟩

set_option maxHeartbeats 4000000 in
set_option maxRecDepth 100000 in
theorem c_Model_lines (l : Launch) (D : jD) (N0 : Nat) {tt : jT} {mi : jI} {mr : jR} {md aq ap aa am ak : Nat} {M : Mt} (h : MR tt mi mr md aq ap aa am ak M) (hM : MI M) : Ct l D N0 3 0 0 y_Model_lines b_Model_lines 4 (some .int) [va_rf (some md)] tt mi mr (ask tt mi mr (lnS M)) := by
  refine Ct.of "OrderDeskModel" (by decide +kernel) rfl (by simp [cat_rf, cat_int]) (Nat.le_of_ble_eq_true rfl) (fun X hXl hXd hXn C E I hWT => ?_)
  subst hXl hXd hXn
  obtain ⟨⟨tmd, hq0, hp0, ha0, hm0, hk0⟩, ⟨tq, tp, ta, tm, tk, npa, npm, nam⟩, hN, hR⟩ := id h
  have hlen : ∀ i, i < 200 → (tkM M i).length ≤ 8 := fun i hi => (hM.1 i hi).2.1
  refine j_iconst (v := 0) C d_Model_lines_0 (by decide) ?_
  refine j_istore_n C d_Model_lines_1 (Nat.le_of_ble_eq_true rfl) ?_
  refine j_iconst (v := 0) C d_Model_lines_2 (by decide) ?_
  refine j_istore_n C d_Model_lines_3 (Nat.le_of_ble_eq_true rfl) ?_
  have loop : ∀ (n i : Nat) (L : List Int32) (x3 : Option Value), i ≤ 200 → 200 < i + n → (L.Nodup ∧ ∀ p, p ∈ L ↔ ∃ i', i' < i ∧ p ∈ tkM M i' ∧ bst M false (inS M none p) 200 (nI i')) → J X tt mi mr 0 0 4 [some (va_rf (some md)), some (.int (nI L.length)), some (.int (nI i)), x3] [] := by
    intro n
    induction n with
    | zero => intro i L x3 h1 h2; exact absurd h2 (by omega)
    | succ n ih =>
      intro i L x3 hi0 hn hinv1
      obtain ⟨hnd0, hinv0⟩ := hinv1
      refine j_iload_n C d_Model_lines_4 rfl ?_
      refine j_sipush (v := 200) C d_Model_lines_5 (by decide) ?_
      refine j_icmp_ge (tgt := 60) C d_Model_lines_8 (by decide) (fun c8 => ?_) (fun c8 => ?_)
      · skip
        rw [show (200 : Int32) = nI 200 from rfl, nI_leI (by omega) (by omega)] at c8
        have ek : i = 200 := by omega
        subst ek
        refine j_iload_n C d_Model_lines_60 rfl ?_
        refine j_iret C E rfl rfl d_Model_lines_61 ?_
        exact ⟨rfl, rfl, rfl, _, rfl, L, rfl, hnd0, hinv0⟩
      · skip
        rw [show (200 : Int32) = nI 200 from rfl, nI_leI (by omega) (by omega)] at c8
        have hi : i < 200 := by omega
        have hl8 := hlen i hi
        have hv := (hR i hi).2.2.2.2
        have loopk : ∀ (n k : Nat) (L : List Int32), k ≤ (tkM M i).length → (tkM M i).length < k + n → (L.Nodup ∧ ∀ p, p ∈ L ↔ (∃ i', i' < i ∧ p ∈ tkM M i' ∧ bst M false (inS M none p) 200 (nI i')) ∨ ∃ j, j < k ∧ (tkM M i)[j]? = some p ∧ bst M false (inS M none p) 200 (nI i)) → J X tt mi mr 0 0 13 [some (va_rf (some md)), some (.int (nI L.length)), some (.int (nI i)), some (.int (nI k))] [] := by
          intro n
          induction n with
          | zero => intro k L h1 h2; exact absurd h2 (by omega)
          | succ n ihk =>
            intro k L hk hn2 hinv0
            obtain ⟨hnd, hinv⟩ := hinv0
            refine j_iload_n C d_Model_lines_13 rfl ?_
            refine j_aload_n C d_Model_lines_14 rfl ?_
            refine j_gets C d_Model_lines_15 fl_Model_20 cl_Model rfl (by assumption) rfl hm0 (fun t15 => ?_)
            refine j_iload_n C d_Model_lines_18 rfl ?_
            refine j_iald C i d_Model_lines_19 (by assumption) rfl hi (by decide) ?_
            refine j_icmp_ge (tgt := 54) C d_Model_lines_20 (by decide) (fun c20 => ?_) (fun c20 => ?_)
            · skip
              rw [(hR i hi).2.2.2.1, nI_leI (by omega) (by omega)] at c20
              refine j_iinc C d_Model_lines_54 rfl (nI_1 i) ?_
              refine j_goto (tgt := 4) C d_Model_lines_57 (by decide) ?_
              refine ih (i + 1) L _ (by omega) (by omega) ⟨hnd, fun p => ?_⟩
              rw [hinv p]
              constructor
              · rintro (⟨i', hi', z⟩ | ⟨j, hj, z1, z2⟩)
                · exact ⟨i', by omega, z⟩
                · exact ⟨i, by omega, List.mem_of_getElem? z1, z2⟩
              · rintro ⟨i', hi', z1, z2⟩
                by_cases e : i' = i
                · rw [e] at z1 z2
                  obtain ⟨j, hj⟩ := List.getElem?_of_mem z1
                  exact Or.inr ⟨j, by have := (List.getElem?_eq_some_iff.mp hj).1; omega, hj, z2⟩
                · exact Or.inl ⟨i', by omega, z1, z2⟩
            · skip
              rw [(hR i hi).2.2.2.1, nI_leI (by omega) (by omega)] at c20
              obtain ⟨w, hw⟩ : ∃ w, (tkM M i)[k]? = some w := ⟨_, List.getElem?_eq_getElem (by omega)⟩
              refine j_aload_n C d_Model_lines_23 rfl ?_
              refine j_iconst (v := (-1)) C d_Model_lines_24 (by decide) ?_
              refine j_aload_n C d_Model_lines_25 rfl ?_
              refine j_gets C d_Model_lines_26 fl_Model_23 cl_Model rfl (by assumption) rfl hk0 (fun t26 => ?_)
              refine j_bipush (v := 8) C d_Model_lines_29 (by decide) ?_
              refine j_iload_n C d_Model_lines_31 rfl ?_
              refine j_imul C d_Model_lines_32 ?_
              refine j_iload_n C d_Model_lines_33 rfl ?_
              refine j_iadd C d_Model_lines_34 ?_
              refine j_iald C (8 * i + k) d_Model_lines_35 (by assumption) (m8 i k) (by omega) (by decide) ?_
              refine j_iconst (v := 0) C d_Model_lines_36 (by decide) ?_
              refine j_callV C [.int (-1), .int (mi ak (8 * i + k)), .int (bI false)] d_Model_lines_37 ml_Model_61 mv_Model_nearest k_Model_nearest ⟨_, _, rfl⟩ tmd (c_Model_nearest _ _ _ h hM (a := none) (fun i z => by cases z) rfl (mi ak (8 * i + k)) false) (by decide) (by decide) rfl (Nat.le_of_ble_eq_true rfl) (Nat.le_of_ble_eq_true rfl) rfl (by simp [cat_rf, cat_int]) (fun v37 tt37 mi37 mr37 p37 => ?_)
              obtain ⟨rfl, rfl, rfl, r, rfl, hb⟩ := p37
              change J X _ _ _ 0 0 40 _ [.int r]
              refine j_iload_n C d_Model_lines_40 rfl ?_
              refine j_icmp_ne (tgt := 48) C d_Model_lines_41 (by decide) (fun c41 => ?_) (fun c41 => ?_)
              · skip
                rw [hv k w hw] at hb
                refine j_iinc C d_Model_lines_48 rfl (nI_1 k) ?_
                refine j_goto (tgt := 13) C d_Model_lines_51 (by decide) ?_
                refine ihk (k + 1) L (by omega) (by omega) ⟨hnd, fun p => ?_⟩
                rw [hinv p]
                constructor
                · rintro (z | ⟨j, hj, z⟩)
                  · exact Or.inl z
                  · exact Or.inr ⟨j, by omega, z⟩
                · rintro (z | ⟨j, hj, z1, z2⟩)
                  · exact Or.inl z
                  · by_cases e : j = k
                    · rw [e, hw] at z1
                      cases z1
                      exact absurd (bst_uniq hb z2) c41
                    · exact Or.inr ⟨j, by omega, z1, z2⟩
              · skip
                rw [hv k w hw] at hb
                rw [c41] at hb
                refine j_iload_n C d_Model_lines_44 rfl ?_
                refine j_iconst (v := 1) C d_Model_lines_45 (by decide) ?_
                refine j_iadd C d_Model_lines_46 ?_
                rw [nI_1, show L.length + 1 = (L ++ [w]).length by simp]
                refine j_istore_n C d_Model_lines_47 (Nat.le_of_ble_eq_true rfl) ?_
                refine j_iinc C d_Model_lines_48 rfl (nI_1 k) ?_
                refine j_goto (tgt := 13) C d_Model_lines_51 (by decide) ?_
                refine ihk (k + 1) (L ++ [w]) (by omega) (by omega) ⟨?_, fun p => ?_⟩
                · rw [List.nodup_append]
                  refine ⟨hnd, by simp, fun a ha b hb2 e => ?_⟩
                  simp at hb2
                  rw [e, hb2] at ha
                  rcases (hinv w).mp ha with ⟨i', hi', hp', hb'⟩ | ⟨j, hj, hwj, -⟩
                  · have := bst_uniq hb' hb
                    rw [nI_eq (by omega) (by omega)] at this
                    omega
                  · have hl1 := (List.getElem?_eq_some_iff.mp hwj).1
                    have hl2 := (List.getElem?_eq_some_iff.mp hw).1
                    have := (List.getElem_inj (i := j) (j := k) (h₀ := hl1) (h₁ := hl2) (hM.1 i hi).1).mp ((List.getElem?_eq_some_iff.mp hwj).2.trans (List.getElem?_eq_some_iff.mp hw).2.symm)
                    omega
                · rw [List.mem_append, List.mem_singleton, hinv p]
                  constructor
                  · rintro ((z | ⟨j, hj, z⟩) | z)
                    · exact Or.inl z
                    · exact Or.inr ⟨j, by omega, z⟩
                    · exact Or.inr ⟨k, by omega, by rw [z]; exact hw, by rw [z]; exact hb⟩
                  · rintro (z | ⟨j, hj, z1, z2⟩)
                    · exact Or.inl (Or.inl z)
                    · by_cases e : j = k
                      · rw [e, hw] at z1; cases z1; exact Or.inr rfl
                      · exact Or.inl (Or.inr ⟨j, by omega, z1, z2⟩)
        refine j_iconst (v := 0) C d_Model_lines_11 (by decide) ?_
        refine j_istore_n C d_Model_lines_12 (Nat.le_of_ble_eq_true rfl) ?_
        refine loopk ((tkM M i).length + 1) 0 L (by omega) (by omega) ⟨hnd0, fun p => ?_⟩
        rw [hinv0 p]
        exact ⟨fun z => Or.inl z, fun z => z.elim id (fun ⟨j, hj, _⟩ => absurd hj (Nat.not_lt_zero j))⟩
  exact loop 201 0 [] none (by omega) (by omega) ⟨List.nodup_nil, fun p => by simp⟩
end
section
/-! PLAIN LAWS 8: what the desk's lists answer -/
def nmO (ix : Nat → Nat) (o : Option Nat) : Int32 := match o with
  | none => -1
  | some x => nI (ix x)
/-- a list of cells, each of an item: in order, and just those of Sx -/
def LSq (M : Mt) (Sx : Nat → Bool) (ix : Nat → Nat) (L : List Nat) : Prop := (∀ x ∈ L, ix x < 200) ∧ L.Pairwise (fun x y => befM M (ix x) (ix y) = true) ∧ ∀ j, j < 200 → (Sx j = true ↔ ∃ x ∈ L, ix x = j)
theorem LSq.head {M : Mt} {Sx : Nat → Bool} {ix : Nat → Nat} {L : List Nat} (h : LSq M Sx ix L) : bst M false Sx 200 (nmO ix L.head?) := by
  obtain ⟨h1, h2, h3⟩ := h
  cases L with
  | nil =>
    refine Or.inl ⟨rfl, fun i hi => ?_⟩
    rw [← Bool.not_eq_true, h3 i hi]
    rintro ⟨x, hx, -⟩
    simp at hx
  | cons x R =>
    refine Or.inr ⟨ix x, h1 x (by simp), rfl, (h3 _ (h1 x (by simp))).mpr ⟨x, by simp, rfl⟩, fun j hj hS hne => ?_⟩
    obtain ⟨y, hy, e⟩ := (h3 j hj).mp hS
    have hyR : y ∈ R := by
      rcases List.mem_cons.mp hy with z | z
      · exact absurd (by rw [← e, z]) hne
      · exact z
    have := (List.pairwise_cons.mp h2).1 y hyR
    rw [e] at this
    exact this
theorem LSq.last {M : Mt} {Sx : Nat → Bool} {ix : Nat → Nat} {L : List Nat} (h : LSq M Sx ix L) : bst M true Sx 200 (nmO ix L.getLast?) := by
  obtain ⟨h1, h2, h3⟩ := h
  rcases List.eq_nil_or_concat L with e | ⟨R, x, e⟩
  · subst e
    refine Or.inl ⟨rfl, fun i hi => ?_⟩
    rw [← Bool.not_eq_true, h3 i hi]
    rintro ⟨x, hx, -⟩
    simp at hx
  · rw [List.concat_eq_append] at e
    subst e
    rw [List.getLast?_concat]
    refine Or.inr ⟨ix x, h1 x (by simp), rfl, (h3 _ (h1 x (by simp))).mpr ⟨x, by simp, rfl⟩, fun j hj hS hne => ?_⟩
    obtain ⟨y, hy, e⟩ := (h3 j hj).mp hS
    have hyR : y ∈ R := by
      rcases List.mem_append.mp hy with z | z
      · exact z
      · simp at z
        exact absurd (by rw [← e, z]) hne
    have := (List.pairwise_append.mp h2).2.2 y hyR x (by simp)
    rw [e] at this
    exact this
/-- those behind a cell -/
theorem LSq.behind {M : Mt} {Sx : Nat → Bool} {ix : Nat → Nat} {P S : List Nat} {m : Nat} (h : LSq M Sx ix (P ++ m :: S)) : LSq M (fun j => Sx j && befM M (ix m) j) ix S := by
  obtain ⟨h1, h2, h3⟩ := h
  obtain ⟨a1, a2, a3⟩ := List.pairwise_append.mp h2
  obtain ⟨a4, a5⟩ := List.pairwise_cons.mp a2
  refine ⟨fun x hx => h1 x (by simp [hx]), a5, fun j hj => ?_⟩
  rw [Bool.and_eq_true, h3 j hj]
  constructor
  · rintro ⟨⟨x, hx, e⟩, hb⟩
    have : x ∈ P ∨ x = m ∨ x ∈ S := by simpa using hx
    rcases this with z | z | z
    · have := a3 x z m (by simp)
      rw [e] at this
      rw [befM_asym this] at hb
      cases hb
    · rw [z] at e
      rw [← e, befM_irr] at hb
      cases hb
    · exact ⟨x, z, e⟩
  · rintro ⟨x, hx, e⟩
    exact ⟨⟨x, by simp [hx], e⟩, by rw [← e]; exact a4 x hx⟩
theorem LSq.inj {M : Mt} {Sx : Nat → Bool} {ix : Nat → Nat} {L : List Nat} (h : LSq M Sx ix L) : ∀ x ∈ L, ∀ y ∈ L, ix x = ix y → x = y := by
  obtain ⟨-, h2, -⟩ := h
  induction L with
  | nil => intro x hx; simp at hx
  | cons a L ih =>
    obtain ⟨b1, b2⟩ := List.pairwise_cons.mp h2
    intro x hx y hy e
    rcases List.mem_cons.mp hx with z | z <;> rcases List.mem_cons.mp hy with w | w
    · rw [z, w]
    · have := b1 y w
      rw [z] at e
      rw [e, befM_irr] at this
      cases this
    · have := b1 x z
      rw [w] at e
      rw [← e, befM_irr] at this
      cases this
    · exact ih b2 x z y w e
theorem LSq.nodup {M : Mt} {Sx : Nat → Bool} {ix : Nat → Nat} {L : List Nat} (h : LSq M Sx ix L) : L.Nodup := by
  refine List.Pairwise.imp (fun {a b} hab => ?_) h.2.1
  intro e
  rw [e, befM_irr] at hab
  cases hab
theorem LSq.count {M : Mt} {Sx : Nat → Bool} {ix : Nat → Nat} {L : List Nat} (h : LSq M Sx ix L) : L.length = ((List.range 200).filter Sx).length := by
  have hn : (L.map ix).Nodup := nodup_map_inj h.nodup h.inj
  have h1 := nodup_le (B := (List.range 200).filter Sx) hn (fun y hy => by
    obtain ⟨x, hx, e⟩ := List.mem_map.mp hy
    have hlt := h.1 x hx
    rw [e] at hlt
    exact List.mem_filter.mpr ⟨List.mem_range.mpr hlt, (h.2.2 y hlt).mpr ⟨x, hx, e⟩⟩)
  have h2 := nodup_le (B := L.map ix) (List.nodup_range.filter Sx : ((List.range 200).filter Sx).Nodup) (fun y hy => by
    obtain ⟨z1, z2⟩ := List.mem_filter.mp hy
    obtain ⟨x, hx, e⟩ := (h.2.2 y (List.mem_range.mp z1)).mp z2
    exact List.mem_map.mpr ⟨x, hx, e⟩)
  rw [List.length_map] at h1 h2
  omega
section ASK
variable {tt : jT} {mi : jI} {mr : jR} {dk od ia ls ch : Nat} {it ma io : Nat → Nat} {ms : Nat → List Nat} {OA : List Nat} {Cs : Nat → List Nat} {F : List Nat} {LM : Nat → List Nat} {M : Mt}
def ixI (mi : jI) (a : Nat) : Nat := (mi a 0).toNatClampNeg
theorem ixI_it (hS : Sh tt mi mr dk od ia ls it ma io ms) {i : Nat} (hi : i < 200) : ixI mi (it i) = i ∧ mi (it i) 0 = nI i := by
  have := (hS.2 i hi).2.2.1
  refine ⟨?_, this⟩
  unfold ixI
  rw [this, nI_clamp (by omega)]
theorem bef_it (hV : Vl mi od it ms M) {i j : Nat} (hi : i < 200) (hj : j < 200) : bef mi (it i) (it j) = befM M i j := by
  obtain ⟨-, v2, v3, -⟩ := hV.2 i hi
  obtain ⟨-, w2, w3, -⟩ := hV.2 j hj
  show befF _ _ _ _ = befF _ _ _ _
  rw [v2, v3, w2, w3]
theorem Od.LSq (hS : Sh tt mi mr dk od ia ls it ma io ms) (hV : Vl mi od it ms M) (hO : Od mi mr od it OA M) : LSq M (inS M none (-1)) (ixI mi) OA := by
  refine ⟨fun x hx => ?_, ?_, fun j hj => ?_⟩
  · obtain ⟨i, hi, e, -⟩ := (hO.2.2.2 x).mp hx
    rw [e, (ixI_it hS hi).1]; exact hi
  · refine List.Pairwise.imp_of_mem (fun {a b} ha hb hab => ?_) hO.2.2.1
    obtain ⟨i, hi, e, -⟩ := (hO.2.2.2 a).mp ha
    obtain ⟨j, hj, e2, -⟩ := (hO.2.2.2 b).mp hb
    have hab : bef mi a b = true := hab
    rw [e, e2] at hab ⊢
    rw [(ixI_it hS hi).1, (ixI_it hS hj).1, ← bef_it hV hi hj]
    exact hab
  · have : inS M none (-1) j = qdM M j := by simp [inS, isOfB]
    rw [this]
    constructor
    · intro hq
      exact ⟨it j, (hO.2.2.2 _).mpr ⟨j, hj, rfl, hq⟩, (ixI_it hS hj).1⟩
    · rintro ⟨x, hx, e⟩
      obtain ⟨i, hi, e2, hq⟩ := (hO.2.2.2 x).mp hx
      rw [e2, (ixI_it hS hi).1] at e
      rw [← e]; exact hq
theorem num_it (hS : Sh tt mi mr dk od ia ls it ma io ms) {o : Option Nat} (ho : ∀ x, o = some x → ∃ i, i < 200 ∧ x = it i) : numF mi o = nmO (ixI mi) o := by
  cases o with
  | none => rfl
  | some x =>
    obtain ⟨i, hi, e⟩ := ho x rfl
    show mi x 0 = nI (ixI mi x)
    rw [e, (ixI_it hS hi).1, (ixI_it hS hi).2]
theorem p_ne {p : Int32} (h : posF p = true) : ¬ p = -1 := by
  intro e
  rw [e] at h
  exact absurd h (by decide)
theorem inS_p {p : Int32} (h : posF p = true) {j : Nat} : inS M none p j = (qdM M j && decide (p ∈ tkM M j)) := by
  simp [inS, isOfB, p_ne h]
/-- a line's members -/
theorem LInv.LSq (hS : Sh tt mi mr dk od ia ls it ma io ms) (hV : Vl mi od it ms M) (hL : LInv tt mi mr ls ch io (plM M ms) (fun _ => False) Cs F LM) {q : Nat} {p : Int32} (hp : posF p = true) (hq : q ∈ Us Cs) (hqp : mi q 0 = p) : LSq M (inS M none p) (fun m => ixI mi (io m)) (LM q) := by
  obtain ⟨k1, k2, k3⟩ := hL.2.2.2.2.2.2.2.2.2.2.1 q hq
  have hpl : ∀ x, plM M ms x → ∃ i, i < 200 ∧ io x = it i ∧ qdM M i = true ∧ x ∈ (ms i).take (tkM M i).length := fun x ⟨i, hi, hqi, hm⟩ => ⟨i, hi, ((hS.2 i hi).2.2.2.2.2.2.2 x (List.mem_of_mem_take hm)).2.2, hqi, hm⟩
  refine ⟨fun x hx => ?_, ?_, fun j hj => ?_⟩
  · obtain ⟨i, hi, e, -⟩ := hpl x ((k3 x).mp hx).1
    show ixI mi (io x) < 200
    rw [e, (ixI_it hS hi).1]; exact hi
  · refine List.Pairwise.imp_of_mem (fun {a b} ha hb hab => ?_) k1
    obtain ⟨i, hi, e, -⟩ := hpl a ((k3 a).mp ha).1
    obtain ⟨j, hj, e2, -⟩ := hpl b ((k3 b).mp hb).1
    show befM M (ixI mi (io a)) (ixI mi (io b)) = true
    have hab : bef mi (io a) (io b) = true := hab
    rw [e, e2] at hab ⊢
    rw [(ixI_it hS hi).1, (ixI_it hS hj).1, ← bef_it hV hi hj]
    exact hab
  · rw [inS_p hp, Bool.and_eq_true, decide_eq_true_eq]
    constructor
    · rintro ⟨hqj, hpj⟩
      rw [← (hV.2 j hj).2.2.2.2] at hpj
      obtain ⟨m, hm, e⟩ := List.mem_map.mp hpj
      refine ⟨m, (k3 m).mpr ⟨⟨j, hj, hqj, hm⟩, by rw [hqp]; exact e⟩, ?_⟩
      show ixI mi (io m) = j
      rw [((hS.2 j hj).2.2.2.2.2.2.2 m (List.mem_of_mem_take hm)).2.2, (ixI_it hS hj).1]
    · rintro ⟨m, hm, e⟩
      have h1 := (k3 m).mp hm
      obtain ⟨i, hi, e2, hqi, hmt⟩ := hpl m h1.1
      have e : ixI mi (io m) = j := e
      rw [e2, (ixI_it hS hi).1] at e
      subst e
      refine ⟨hqi, ?_⟩
      rw [← (hV.2 i hi).2.2.2.2]
      exact List.mem_map.mpr ⟨m, hmt, by rw [h1.2, hqp]⟩
/-- no line: no one -/
theorem noline (hV : Vl mi od it ms M) (hL : LInv tt mi mr ls ch io (plM M ms) (fun _ => False) Cs F LM) {p : Int32} (hp : posF p = true) (hno : ∀ q ∈ Us Cs, mi q 0 ≠ p) : LSq M (inS M none p) (fun m => ixI mi (io m)) [] := by
  refine ⟨fun x hx => by simp at hx, List.Pairwise.nil, fun j hj => ?_⟩
  rw [inS_p hp, Bool.and_eq_true, decide_eq_true_eq]
  constructor
  · rintro ⟨hqj, hpj⟩
    rw [← (hV.2 j hj).2.2.2.2] at hpj
    obtain ⟨m, hm, e⟩ := List.mem_map.mp hpj
    obtain ⟨-, -, -, q, hq, e2⟩ := hL.2.2.2.2.2.2.2.2.2.2.2.2 m ⟨j, hj, hqj, hm⟩
    exact absurd (e2.trans e) (hno q hq)
  · rintro ⟨m, hm, -⟩
    simp at hm
/-- member m of item i's row, of position p, in its line -/
theorem mline (hS : Sh tt mi mr dk od ia ls it ma io ms) (hV : Vl mi od it ms M) (hL : LInv tt mi mr ls ch io (plM M ms) (fun _ => False) Cs F LM) (hM : MI M) {i m : Nat} (hi : i < 200) (hq : qdM M i = true) (hm : m ∈ (ms i).take (tkM M i).length) :
    ∃ P S, LSq M (inS M none (mi m 1)) (fun m => ixI mi (io m)) (P ++ m :: S) ∧ mr m 3 = P.getLast? ∧ mr m 4 = S.head? ∧ ixI mi (io m) = i ∧ (∀ x ∈ P ++ m :: S, tt x = some (.inl 1) ∧ mr x 0 = some (io x) ∧ ∃ j, j < 200 ∧ io x = it j) := by
  have hpm : plM M ms m := ⟨i, hi, hq, hm⟩
  obtain ⟨q, P, S, hqU, -, hqp, hLq, -⟩ := hL.lineOf hpm
  have hpp : mi m 1 ∈ tkM M i := by rw [← (hV.2 i hi).2.2.2.2]; exact List.mem_map.mpr ⟨m, hm, rfl⟩
  have hLS := hL.LSq hS hV ((hM.1 i hi).2.2 _ hpp) hqU hqp
  rw [hLq] at hLS
  have hLL := (hL.2.2.2.2.2.2.1 q (List.mem_append_right _ hqU)).2.1
  rw [hLq] at hLL
  have k3 := (hL.2.2.2.2.2.2.2.2.2.2.1 q hqU).2.2
  refine ⟨P, S, hLS, hLL.at.1, hLL.at.2, ?_, fun x hx => ?_⟩
  · rw [((hS.2 i hi).2.2.2.2.2.2.2 m (List.mem_of_mem_take hm)).2.2, (ixI_it hS hi).1]
  · have hxp := ((k3 x).mp (by rw [hLq]; exact hx)).1
    obtain ⟨o1, o2, -⟩ := hL.2.2.2.2.2.2.2.2.2.2.2.2 x hxp
    obtain ⟨j, hj, -, hmj⟩ := hxp
    exact ⟨o1, o2, j, hj, ((hS.2 j hj).2.2.2.2.2.2.2 x (List.mem_of_mem_take hmj)).2.2⟩
/-- it heads its line just if it is the first one of the position -/
theorem head_iff {P S : List Nat} {m : Nat} {p : Int32} {ix : Nat → Nat} (hLS : LSq M (inS M none p) ix (P ++ m :: S)) : P.getLast? = none ↔ bst M false (inS M none p) 200 (nI (ix m)) := by
  constructor
  · intro h
    rw [List.getLast?_eq_none_iff] at h
    have := hLS.head
    rw [h] at this
    exact this
  · intro h
    cases P with
    | nil => rfl
    | cons y P =>
      exfalso
      have h1 : bst M false (inS M none p) 200 (nI (ix y)) := hLS.head
      have h2 := bst_uniq h h1
      have l1 := hLS.1 m (by simp)
      have l2 := hLS.1 y (by simp)
      rw [nI_eq (by omega) (by omega)] at h2
      have := hLS.inj m (by simp) y (by simp) h2
      have hn := hLS.nodup
      rw [this] at hn
      simp at hn
theorem heads_ok (hS : Sh tt mi mr dk od ia ls it ma io ms) (hV : Vl mi od it ms M) (hL : LInv tt mi mr ls ch io (plM M ms) (fun _ => False) Cs F LM) (hM : MI M) {i : Nat} (hi : i < 200) (hq : qdM M i = true) : ((ms i).take (tkM M i).length).all (fun m => (mr m 3).isNone) = true ↔ ∀ p ∈ tkM M i, bst M false (inS M none p) 200 (nI i) := by
  rw [List.all_eq_true]
  constructor
  · intro h p hp
    rw [← (hV.2 i hi).2.2.2.2] at hp
    obtain ⟨m, hm, e⟩ := List.mem_map.mp hp
    obtain ⟨P, S, hLS, e3, -, ei, -⟩ := mline hS hV hL hM hi hq hm
    have e : mi m 1 = p := e
    rw [e] at hLS
    have h1 := (head_iff hLS).mp (by rw [← e3]; simpa using h m hm)
    rw [ei] at h1
    exact h1
  · intro h m hm
    obtain ⟨P, S, hLS, e3, -, ei, -⟩ := mline hS hV hL hM hi hq hm
    have hpp : mi m 1 ∈ tkM M i := by rw [← (hV.2 i hi).2.2.2.2]; exact List.mem_map.mpr ⟨m, hm, rfl⟩
    have h1 := (head_iff hLS).mpr (by rw [ei]; exact h _ hpp)
    rw [e3, h1]; rfl
theorem nodup_leI {A B : List Int32} (hA : A.Nodup) (h : ∀ x ∈ A, x ∈ B) : A.length ≤ B.length := by
  induction A generalizing B with
  | nil => simp
  | cons a A ih =>
    rw [List.nodup_cons] at hA
    have ha := h a List.mem_cons_self
    have h2 := ih (B := B.erase a) hA.2 (fun x hx => by
      have hne : x ≠ a := fun e => hA.1 (e ▸ hx)
      exact (List.mem_erase_of_ne hne).mpr (h x (List.mem_cons_of_mem _ hx)))
    have h3 := List.length_erase_of_mem ha
    have h4 : 0 < B.length := List.length_pos_of_mem ha
    rw [List.length_cons]
    omega
theorem lnS_uniq {r r' : Int32} (h : lnS M r) (h' : lnS M r') : r = r' := by
  obtain ⟨L, e, hn, hm⟩ := h
  obtain ⟨L', e', hn', hm'⟩ := h'
  have h1 := nodup_leI hn (fun x hx => (hm' x).mpr ((hm x).mp hx))
  have h2 := nodup_leI hn' (fun x hx => (hm x).mpr ((hm' x).mp hx))
  rw [e, e', show L.length = L'.length by omega]
theorem nodup_mapI {L : List Nat} {f : Nat → Int32} (h : L.Nodup) (hi : ∀ x ∈ L, ∀ y ∈ L, f x = f y → x = y) : (L.map f).Nodup := by
  induction L with
  | nil => simp
  | cons a L ih =>
    rw [List.nodup_cons] at h
    rw [List.map_cons, List.nodup_cons]
    refine ⟨fun hm => ?_, ih h.2 (fun x hx y hy => hi x (List.mem_cons_of_mem _ hx) y (List.mem_cons_of_mem _ hy))⟩
    obtain ⟨y, hy, e⟩ := List.mem_map.mp hm
    have := hi y (List.mem_cons_of_mem _ hy) a List.mem_cons_self e
    exact h.1 (this ▸ hy)
theorem lines_ok (hS : Sh tt mi mr dk od ia ls it ma io ms) (hV : Vl mi od it ms M) (hL : LInv tt mi mr ls ch io (plM M ms) (fun _ => False) Cs F LM) (hM : MI M) : lnS M (mi ls 2) := by
  have d1 := hL.2.2.2.1
  have hj := hL.2.2.2.2.2.2.2.2.2.1
  have hk := hL.2.2.2.2.2.2.2.2.2.2.1
  refine ⟨(Us Cs).map (fun q => mi q 0), by rw [List.length_map]; exact hL.2.2.2.2.2.1, nodup_mapI (List.nodup_append.mp d1).2.1 hj, fun p => ?_⟩
  constructor
  · intro hp
    obtain ⟨q, hq, e⟩ := List.mem_map.mp hp
    obtain ⟨k1, k2, k3⟩ := hk q hq
    cases hLq : LM q with
    | nil => exact absurd hLq (k2 (fun z => z))
    | cons m R =>
      have hm := (k3 m).mp (by rw [hLq]; simp)
      obtain ⟨i, hi, hqi, hmt⟩ := hm.1
      have hpi : p ∈ tkM M i := by
        rw [← (hV.2 i hi).2.2.2.2]
        exact List.mem_map.mpr ⟨m, hmt, hm.2.trans e⟩
      refine ⟨i, hi, hpi, ?_⟩
      have hLS := (hL.LSq hS hV ((hM.1 i hi).2.2 p hpi) hq e).head
      rw [hLq] at hLS
      have : ixI mi (io m) = i := by rw [((hS.2 i hi).2.2.2.2.2.2.2 m (List.mem_of_mem_take hmt)).2.2, (ixI_it hS hi).1]
      have hLS : bst M false (inS M none p) 200 (nI (ixI mi (io m))) := hLS
      rw [this] at hLS
      exact hLS
  · rintro ⟨i, hi, hpi, hb⟩
    have hqi : qdM M i = true := by
      rcases hb with ⟨e, -⟩ | ⟨j, hj, e, hSj, -⟩
      · exact absurd e (nI_m1 hi)
      · rw [nI_eq (by omega) (by omega)] at e
        rw [e]; exact inS_q hSj
    rw [← (hV.2 i hi).2.2.2.2] at hpi
    obtain ⟨m, hm, e⟩ := List.mem_map.mp hpi
    obtain ⟨-, -, -, q, hq, e2⟩ := hL.2.2.2.2.2.2.2.2.2.2.2.2 m ⟨i, hi, hqi, hm⟩
    exact List.mem_map.mpr ⟨q, hq, e2.trans e⟩
end ASK
end
section
/-! THE DESK's QUESTIONS -/
theorem inS_none {M : Mt} {p : Int32} : inS M none p = isOfB M p := by
  funext j
  simp [inS]
section DQ
variable {tt : jT} {mi : jI} {mr : jR} {dk od ia ls ch : Nat} {it ma io : Nat → Nat} {ms : Nat → List Nat} {M : Mt}
theorem num_m (hS : Sh tt mi mr dk od ia ls it ma io ms) {o : Option Nat} (ho : ∀ x, o = some x → ∃ j, j < 200 ∧ io x = it j) : numF mi (o.map io) = nmO (fun m => ixI mi (io m)) o := by
  cases o with
  | none => rfl
  | some x =>
    obtain ⟨i, hi, e⟩ := ho x rfl
    show mi (io x) 0 = nI (ixI mi (io x))
    rw [e, (ixI_it hS hi).1, (ixI_it hS hi).2]
end DQ

set_option maxHeartbeats 4000000 in
set_option maxRecDepth 100000 in
theorem c_Desk_heads (l : Launch) (D : jD) (N0 : Nat) {tt : jT} {mi : jI} {mr : jR} {dk od ia ls ch : Nat} {it ma io : Nat → Nat} {M : Mt} (h : Dk tt mi mr dk od ia ls ch it ma io M) (hM : MI M) (x : Int32) : Ct l D N0 2 0 0 y_Desk_heads b_Desk_heads 2 (some .boolean) [va_rf (some dk), .int x] tt mi mr (ask tt mi mr (hsS M x)) := by
  refine Ct.of "OrderDesk" (by decide +kernel) rfl (by simp [cat_rf, cat_int]) (Nat.le_of_ble_eq_true rfl) (fun X hXl hXd hXn C E I hWT => ?_)
  subst hXl hXd hXn
  obtain ⟨ms, OA, Cs0, F0, LM0, hS, hV, hO, hL0⟩ := id h
  have tdk := hS.1.1
  have hdk := hS.1.2.1
  have tod := hS.1.2.2.1
  have hoia := hS.1.2.2.2.1
  have hols := hS.1.2.2.2.2.1
  have tia := hS.1.2.2.2.2.2
  have hit : ∀ i, i < 200 → mr ia i = some (it i) := fun i hi => (hS.2 i hi).1
  have hqF := qF_eq hV x
  refine j_aload_n C d_Desk_heads_0 rfl ?_
  refine j_gets C d_Desk_heads_1 fl_Desk_14 cl_Desk rfl (by assumption) rfl hdk (fun t1 => ?_)
  refine j_iload_n C d_Desk_heads_4 rfl ?_
  refine j_callVr C [.int x] d_Desk_heads_5 ml_Desk_23 mv_Orders_queued k_Orders_queued ⟨_, _, rfl⟩ tod (c_Orders_queued _ _ _ tod hoia hit x) (by decide) (by decide) rfl (Nat.le_of_ble_eq_true rfl) (Nat.le_of_ble_eq_true rfl) rfl (by simp [cat_rf, cat_int]) ?_
  rw [hqF]
  cases hQ : isQ M x with
  | false =>
    rw [show qD M it x = none by simp [qD, hQ]]
    refine j_ifnull_n (tgt := 34) C d_Desk_heads_8 (by decide) ?_
    refine j_iconst (v := 0) C d_Desk_heads_34 (by decide) ?_
    refine j_iret C E rfl (by first | rfl | exact nar_bI _) d_Desk_heads_35 ?_
    exact ⟨rfl, rfl, rfl, 0, rfl, false, rfl, by rw [hQ]; simp⟩
  | true =>
    rw [show qD M it x = some (it (ixN x)) by simp [qD, hQ]]
    have hQ2 : itemF x = true ∧ qdM M (ixN x) = true := by simpa [isQ] using hQ
    obtain ⟨hi, hix⟩ : ixN x < 200 ∧ x = nI (ixN x) := itemF_spec hQ2.1
    have hw := hS.2 (ixN x) hi
    have hv := hV.2 (ixN x) hi
    refine j_ifnull_s (tgt := 34) C d_Desk_heads_8 (by decide) ?_
    refine j_aload_n C d_Desk_heads_11 rfl ?_
    refine j_gets C d_Desk_heads_12 fl_Desk_14 cl_Desk rfl (by assumption) rfl hdk (fun t12 => ?_)
    refine j_aload_n C d_Desk_heads_15 rfl ?_
    refine j_gets C d_Desk_heads_16 fl_Desk_14 cl_Desk rfl (by assumption) rfl hdk (fun t16 => ?_)
    refine j_gets C d_Desk_heads_19 fl_Desk_30 cl_Orders rfl (by assumption) rfl hoia (fun t19 => ?_)
    refine j_iload_n C d_Desk_heads_22 rfl ?_
    refine j_aalds C (ixN x) d_Desk_heads_23 (by assumption) (by decide) hix hi (by decide) (hit _ hi) (fun t23 => ?_)
    refine j_callVi C [va_rf (some (it (ixN x)))] d_Desk_heads_24 ml_Desk_66 mv_Orders_heads k_Orders_heads ⟨_, _, rfl⟩ tod (c_Orders_heads _ _ _ tod hw.2.1 hv.2.2.2.1 (hM.1 _ hi).2.1 hw.2.2.2.1 hw.2.2.2.2.2.1) (by decide) (by decide) rfl (Nat.le_of_ble_eq_true rfl) (Nat.le_of_ble_eq_true rfl) rfl (by simp [cat_rf, cat_int]) ?_
    refine j_if_eq (tgt := 34) C d_Desk_heads_27 (by decide) (fun c27 => ?_) (fun c27 => ?_)
    · skip
      rw [bI_0] at c27
      have hfin : hsS M x 0 := ⟨false, rfl, ⟨fun z => absurd z (by decide), fun z => absurd ((heads_ok hS hV hL0 hM hi hQ2.2).mpr z.2) (by rw [c27]; decide)⟩⟩
      refine j_iconst (v := 0) C d_Desk_heads_34 (by decide) ?_
      refine j_iret C E rfl (by first | rfl | exact nar_bI _) d_Desk_heads_35 ?_
      exact ⟨rfl, rfl, rfl, _, rfl, hfin⟩
    · skip
      rw [bI_0, Bool.not_eq_false] at c27
      have hfin : hsS M x 1 := ⟨true, rfl, ⟨fun _ => ⟨hQ, (heads_ok hS hV hL0 hM hi hQ2.2).mp c27⟩, fun _ => rfl⟩⟩
      refine j_iconst (v := 1) C d_Desk_heads_30 (by decide) ?_
      refine j_goto (tgt := 35) C d_Desk_heads_31 (by decide) ?_
      refine j_iret C E rfl (by first | rfl | exact nar_bI _) d_Desk_heads_35 ?_
      exact ⟨rfl, rfl, rfl, _, rfl, hfin⟩

set_option maxHeartbeats 4000000 in
set_option maxRecDepth 100000 in
theorem c_Desk_before (l : Launch) (D : jD) (N0 : Nat) {tt : jT} {mi : jI} {mr : jR} {dk od ia ls ch : Nat} {it ma io : Nat → Nat} {M : Mt} (h : Dk tt mi mr dk od ia ls ch it ma io M) (hM : MI M) (x y : Int32) : Ct l D N0 2 0 0 y_Desk_before b_Desk_before 5 (some .boolean) [va_rf (some dk), .int x, .int y] tt mi mr (pI (bI (isQ M x && isQ M y && befM M (ixN x) (ixN y))) tt mi mr) := by
  refine Ct.of "OrderDesk" (by decide +kernel) rfl (by simp [cat_rf, cat_int]) (Nat.le_of_ble_eq_true rfl) (fun X hXl hXd hXn C E I hWT => ?_)
  subst hXl hXd hXn
  obtain ⟨ms, OA, Cs0, F0, LM0, hS, hV, hO, hL0⟩ := id h
  have tdk := hS.1.1
  have hdk := hS.1.2.1
  have tod := hS.1.2.2.1
  have hoia := hS.1.2.2.2.1
  have hols := hS.1.2.2.2.2.1
  have tia := hS.1.2.2.2.2.2
  have hit : ∀ i, i < 200 → mr ia i = some (it i) := fun i hi => (hS.2 i hi).1
  have hqF := qF_eq hV x
  have hqF2 := qF_eq hV y
  refine j_aload_n C d_Desk_before_0 rfl ?_
  refine j_gets C d_Desk_before_1 fl_Desk_14 cl_Desk rfl (by assumption) rfl hdk (fun t1 => ?_)
  refine j_iload_n C d_Desk_before_4 rfl ?_
  refine j_callVr C [.int x] d_Desk_before_5 ml_Desk_23 mv_Orders_queued k_Orders_queued ⟨_, _, rfl⟩ tod (c_Orders_queued _ _ _ tod hoia hit x) (by decide) (by decide) rfl (Nat.le_of_ble_eq_true rfl) (Nat.le_of_ble_eq_true rfl) rfl (by simp [cat_rf, cat_int]) ?_
  rw [hqF]
  cases hQ : isQ M x with
  | false =>
    rw [show qD M it x = none by simp [qD, hQ]]
    refine j_astore_n C d_Desk_before_8 (Nat.le_of_ble_eq_true rfl) ?_
    refine j_aload_n C d_Desk_before_9 rfl ?_
    refine j_gets C d_Desk_before_10 fl_Desk_14 cl_Desk rfl (by assumption) rfl hdk (fun t10 => ?_)
    refine j_iload_n C d_Desk_before_13 rfl ?_
    refine j_callVr C [.int y] d_Desk_before_14 ml_Desk_23 mv_Orders_queued k_Orders_queued ⟨_, _, rfl⟩ tod (c_Orders_queued _ _ _ tod hoia hit y) (by decide) (by decide) rfl (Nat.le_of_ble_eq_true rfl) (Nat.le_of_ble_eq_true rfl) rfl (by simp [cat_rf, cat_int]) ?_
    rw [hqF2]
    cases hR : isQ M y with
    | false =>
      rw [show qD M it y = none by simp [qD, hR]]
      refine j_astore C d_Desk_before_17 (Nat.le_of_ble_eq_true rfl) ?_
      refine j_aload_n C d_Desk_before_19 rfl ?_
      refine j_ifnull_n (tgt := 41) C d_Desk_before_20 (by decide) ?_
      refine j_iconst (v := 0) C d_Desk_before_41 (by decide) ?_
      refine j_iret C E rfl (by first | rfl | exact nar_bI _) d_Desk_before_42 ?_
      exact ⟨by simp [hQ, bI], rfl, rfl, rfl⟩
    | true =>
      rw [show qD M it y = some (it (ixN y)) by simp [qD, hR]]
      have hR2 : itemF y = true ∧ qdM M (ixN y) = true := by simpa [isQ] using hR
      obtain ⟨hj, hjy⟩ : ixN y < 200 ∧ y = nI (ixN y) := itemF_spec hR2.1
      refine j_astore C d_Desk_before_17 (Nat.le_of_ble_eq_true rfl) ?_
      refine j_aload_n C d_Desk_before_19 rfl ?_
      refine j_ifnull_n (tgt := 41) C d_Desk_before_20 (by decide) ?_
      refine j_iconst (v := 0) C d_Desk_before_41 (by decide) ?_
      refine j_iret C E rfl (by first | rfl | exact nar_bI _) d_Desk_before_42 ?_
      exact ⟨by simp [hQ, bI], rfl, rfl, rfl⟩
  | true =>
    rw [show qD M it x = some (it (ixN x)) by simp [qD, hQ]]
    have hQ2 : itemF x = true ∧ qdM M (ixN x) = true := by simpa [isQ] using hQ
    obtain ⟨hi, hix⟩ : ixN x < 200 ∧ x = nI (ixN x) := itemF_spec hQ2.1
    have hw := hS.2 (ixN x) hi
    have hv := hV.2 (ixN x) hi
    refine j_astore_n C d_Desk_before_8 (Nat.le_of_ble_eq_true rfl) ?_
    refine j_aload_n C d_Desk_before_9 rfl ?_
    refine j_gets C d_Desk_before_10 fl_Desk_14 cl_Desk rfl (by assumption) rfl hdk (fun t10 => ?_)
    refine j_iload_n C d_Desk_before_13 rfl ?_
    refine j_callVr C [.int y] d_Desk_before_14 ml_Desk_23 mv_Orders_queued k_Orders_queued ⟨_, _, rfl⟩ tod (c_Orders_queued _ _ _ tod hoia hit y) (by decide) (by decide) rfl (Nat.le_of_ble_eq_true rfl) (Nat.le_of_ble_eq_true rfl) rfl (by simp [cat_rf, cat_int]) ?_
    rw [hqF2]
    cases hR : isQ M y with
    | false =>
      rw [show qD M it y = none by simp [qD, hR]]
      refine j_astore C d_Desk_before_17 (Nat.le_of_ble_eq_true rfl) ?_
      refine j_aload_n C d_Desk_before_19 rfl ?_
      refine j_ifnull_s (tgt := 41) C d_Desk_before_20 (by decide) ?_
      refine j_aload C d_Desk_before_23 rfl ?_
      refine j_ifnull_n (tgt := 41) C d_Desk_before_25 (by decide) ?_
      refine j_iconst (v := 0) C d_Desk_before_41 (by decide) ?_
      refine j_iret C E rfl (by first | rfl | exact nar_bI _) d_Desk_before_42 ?_
      exact ⟨by simp [hR, bI], rfl, rfl, rfl⟩
    | true =>
      rw [show qD M it y = some (it (ixN y)) by simp [qD, hR]]
      have hR2 : itemF y = true ∧ qdM M (ixN y) = true := by simpa [isQ] using hR
      obtain ⟨hj, hjy⟩ : ixN y < 200 ∧ y = nI (ixN y) := itemF_spec hR2.1
      refine j_astore C d_Desk_before_17 (Nat.le_of_ble_eq_true rfl) ?_
      refine j_aload_n C d_Desk_before_19 rfl ?_
      refine j_ifnull_s (tgt := 41) C d_Desk_before_20 (by decide) ?_
      refine j_aload C d_Desk_before_23 rfl ?_
      refine j_ifnull_s (tgt := 41) C d_Desk_before_25 (by decide) ?_
      refine j_aload_n C d_Desk_before_28 rfl ?_
      refine j_aload C d_Desk_before_29 rfl ?_
      refine j_callVi C [va_rf (some (it (ixN y)))] d_Desk_before_31 ml_Desk_70 mv_Item_isBefore k_Item_isBefore ⟨_, _, rfl⟩ (hS.2 _ hi).2.1 (c_Item_isBefore _ _ _ (hS.2 _ hi).2.1 (hS.2 _ hj).2.1) (by decide) (by decide) rfl (Nat.le_of_ble_eq_true rfl) (Nat.le_of_ble_eq_true rfl) rfl (by simp [cat_rf, cat_int]) ?_
      refine j_if_eq (tgt := 41) C d_Desk_before_34 (by decide) (fun c34 => ?_) (fun c34 => ?_)
      · skip
        rw [bI_0] at c34
        have c34 := (bef_it hV hi hj).symm.trans c34
        refine j_iconst (v := 0) C d_Desk_before_41 (by decide) ?_
        refine j_iret C E rfl (by first | rfl | exact nar_bI _) d_Desk_before_42 ?_
        exact ⟨by simp [hQ, hR, c34, bI], rfl, rfl, rfl⟩
      · skip
        rw [bI_0, Bool.not_eq_false] at c34
        have c34 := (bef_it hV hi hj).symm.trans c34
        refine j_iconst (v := 1) C d_Desk_before_37 (by decide) ?_
        refine j_goto (tgt := 42) C d_Desk_before_38 (by decide) ?_
        refine j_iret C E rfl (by first | rfl | exact nar_bI _) d_Desk_before_42 ?_
        exact ⟨by simp [hQ, hR, c34, bI], rfl, rfl, rfl⟩

set_option maxHeartbeats 4000000 in
set_option maxRecDepth 100000 in
theorem c_Desk_first (l : Launch) (D : jD) (N0 : Nat) {tt : jT} {mi : jI} {mr : jR} {dk od ia ls ch : Nat} {it ma io : Nat → Nat} {M : Mt} (h : Dk tt mi mr dk od ia ls ch it ma io M) (hM : MI M) : Ct l D N0 1 0 0 y_Desk_first b_Desk_first 1 (some .int) [va_rf (some dk)] tt mi mr (ask tt mi mr (bst M false (inS M none (-1)) 200)) := by
  refine Ct.of "OrderDesk" (by decide +kernel) rfl (by simp [cat_rf, cat_int]) (Nat.le_of_ble_eq_true rfl) (fun X hXl hXd hXn C E I hWT => ?_)
  subst hXl hXd hXn
  obtain ⟨ms, OA, Cs0, F0, LM0, hS, hV, hO, hL0⟩ := id h
  have tdk := hS.1.1
  have hdk := hS.1.2.1
  have tod := hS.1.2.2.1
  have hoia := hS.1.2.2.2.1
  have hols := hS.1.2.2.2.2.1
  have tia := hS.1.2.2.2.2.2
  have hit : ∀ i, i < 200 → mr ia i = some (it i) := fun i hi => (hS.2 i hi).1
  refine j_aload_n C d_Desk_first_0 rfl ?_
  refine j_gets C d_Desk_first_1 fl_Desk_14 cl_Desk rfl (by assumption) rfl hdk (fun t1 => ?_)
  refine j_getk (r := OA.head?) C d_Desk_first_4 fl_Desk_73 cl_Orders rfl (by assumption) rfl hO.1.1 (fun t4 => ?_)
  refine j_callSi C [va_rf OA.head?] d_Desk_first_7 ml_Desk_77 ms_Orders_numberI k_Orders_numberI (c_Orders_numberI _ _ _ OA.head? (fun a e => hO.a hS (List.mem_of_head? e))) (by decide) (by decide) rfl (Nat.le_of_ble_eq_true rfl) (Nat.le_of_ble_eq_true rfl) rfl (by simp [cat_rf, cat_int]) ?_
  refine j_iret C E rfl rfl d_Desk_first_10 ?_
  refine ⟨rfl, rfl, rfl, _, rfl, ?_⟩
  rw [num_it hS (fun z hz => by obtain ⟨i, hi, e, -⟩ := (hO.2.2.2 z).mp (List.mem_of_head? hz); exact ⟨i, hi, e⟩)]
  exact (hO.LSq hS hV).head

set_option maxHeartbeats 4000000 in
set_option maxRecDepth 100000 in
theorem c_Desk_next (l : Launch) (D : jD) (N0 : Nat) {tt : jT} {mi : jI} {mr : jR} {dk od ia ls ch : Nat} {it ma io : Nat → Nat} {M : Mt} (h : Dk tt mi mr dk od ia ls ch it ma io M) (hM : MI M) (x : Int32) : Ct l D N0 2 0 0 y_Desk_next b_Desk_next 3 (some .int) [va_rf (some dk), .int x] tt mi mr (ask tt mi mr (nxS M x)) := by
  refine Ct.of "OrderDesk" (by decide +kernel) rfl (by simp [cat_rf, cat_int]) (Nat.le_of_ble_eq_true rfl) (fun X hXl hXd hXn C E I hWT => ?_)
  subst hXl hXd hXn
  obtain ⟨ms, OA, Cs0, F0, LM0, hS, hV, hO, hL0⟩ := id h
  have tdk := hS.1.1
  have hdk := hS.1.2.1
  have tod := hS.1.2.2.1
  have hoia := hS.1.2.2.2.1
  have hols := hS.1.2.2.2.2.1
  have tia := hS.1.2.2.2.2.2
  have hit : ∀ i, i < 200 → mr ia i = some (it i) := fun i hi => (hS.2 i hi).1
  have hqF := qF_eq hV x
  refine j_aload_n C d_Desk_next_0 rfl ?_
  refine j_gets C d_Desk_next_1 fl_Desk_14 cl_Desk rfl (by assumption) rfl hdk (fun t1 => ?_)
  refine j_iload_n C d_Desk_next_4 rfl ?_
  refine j_callVr C [.int x] d_Desk_next_5 ml_Desk_23 mv_Orders_queued k_Orders_queued ⟨_, _, rfl⟩ tod (c_Orders_queued _ _ _ tod hoia hit x) (by decide) (by decide) rfl (Nat.le_of_ble_eq_true rfl) (Nat.le_of_ble_eq_true rfl) rfl (by simp [cat_rf, cat_int]) ?_
  rw [hqF]
  cases hQ : isQ M x with
  | false =>
    rw [show qD M it x = none by simp [qD, hQ]]
    refine j_astore_n C d_Desk_next_8 (Nat.le_of_ble_eq_true rfl) ?_
    refine j_aload_n C d_Desk_next_9 rfl ?_
    refine j_ifnonnull_n (tgt := 17) C d_Desk_next_10 (by decide) ?_
    refine j_iconst (v := (-1)) C d_Desk_next_13 (by decide) ?_
    refine j_goto (tgt := 24) C d_Desk_next_14 (by decide) ?_
    refine j_iret C E rfl rfl d_Desk_next_24 ?_
    exact ⟨rfl, rfl, rfl, -1, rfl, by rw [nxS, if_neg (by rw [hQ]; decide)]⟩
  | true =>
    rw [show qD M it x = some (it (ixN x)) by simp [qD, hQ]]
    have hQ2 : itemF x = true ∧ qdM M (ixN x) = true := by simpa [isQ] using hQ
    obtain ⟨hi, hix⟩ : ixN x < 200 ∧ x = nI (ixN x) := itemF_spec hQ2.1
    have hw := hS.2 (ixN x) hi
    have hv := hV.2 (ixN x) hi
    obtain ⟨P, S, eOA⟩ := List.append_of_mem ((hO.2.2.2 (it (ixN x))).mpr ⟨ixN x, hi, rfl, hQ2.2⟩)
    have hat : mr (it (ixN x)) 7 = S.head? := (by rw [← eOA]; exact hO.1 : LL mr od 2 3 6 7 (P ++ it (ixN x) :: S)).at.2
    refine j_astore_n C d_Desk_next_8 (Nat.le_of_ble_eq_true rfl) ?_
    refine j_aload_n C d_Desk_next_9 rfl ?_
    refine j_ifnonnull_s (tgt := 17) C d_Desk_next_10 (by decide) ?_
    refine j_aload_n C d_Desk_next_17 rfl ?_
    refine j_getk (r := S.head?) C d_Desk_next_18 fl_Desk_81 cl_Item rfl hw.2.1 rfl hat (fun t18 => ?_)
    refine j_callSi C [va_rf S.head?] d_Desk_next_21 ml_Desk_77 ms_Orders_numberI k_Orders_numberI (c_Orders_numberI _ _ _ S.head? (fun a e => hO.a hS (by rw [eOA]; simp [List.mem_of_head? e]))) (by decide) (by decide) rfl (Nat.le_of_ble_eq_true rfl) (Nat.le_of_ble_eq_true rfl) rfl (by simp [cat_rf, cat_int]) ?_
    refine j_iret C E rfl rfl d_Desk_next_24 ?_
    refine ⟨rfl, rfl, rfl, _, rfl, ?_⟩
    rw [nxS, if_pos hQ, num_it hS (fun z hz => by obtain ⟨i, hi, e, -⟩ := (hO.2.2.2 z).mp (by rw [eOA]; simp [List.mem_of_head? hz]); exact ⟨i, hi, e⟩)]
    have h1 := hO.LSq hS hV
    rw [eOA] at h1
    have h2 := h1.behind.head
    rw [(ixI_it hS hi).1] at h2
    have e : inS M (some (ixN x)) (-1) = (fun j => inS M none (-1) j && befM M (ixN x) j) := by funext j; simp [inS]
    rw [e]
    exact h2

set_option maxHeartbeats 4000000 in
set_option maxRecDepth 100000 in
theorem c_Desk_line (l : Launch) (D : jD) (N0 : Nat) {tt : jT} {mi : jI} {mr : jR} {dk od ia ls ch : Nat} {it ma io : Nat → Nat} {ms : Nat → List Nat} {Cs0 : Nat → List Nat} {F0 : List Nat} {LM0 : Nat → List Nat} {pl E : Nat → Prop} (hS : Sh tt mi mr dk od ia ls it ma io ms) (hL0 : LInv tt mi mr ls ch io pl E Cs0 F0 LM0) (x : Int32) : Ct l D N0 2 0 0 y_Desk_line b_Desk_line 2 (some (.object "OrderDesk$Line")) [va_rf (some dk), .int x] tt mi mr (pR (if posF x = true then (Cs0 (chF x)).find? (fun l => decide (mi l 0 = x)) else none) tt mi mr) := by
  refine Ct.of "OrderDesk" (by decide +kernel) rfl (by simp [cat_rf, cat_int]) (Nat.le_of_ble_eq_true rfl) (fun X hXl hXd hXn C E I hWT => ?_)
  subst hXl hXd hXn
  have tdk := hS.1.1
  refine j_iload_n C d_Desk_line_0 rfl ?_
  refine j_callSi C [.int x] d_Desk_line_1 ml_Desk_27 ms_Desk_isPosition k_Desk_isPosition (c_Desk_isPosition _ _ _ x) (by decide) (by decide) rfl (Nat.le_of_ble_eq_true rfl) (Nat.le_of_ble_eq_true rfl) rfl (by simp [cat_rf, cat_int]) ?_
  refine j_if_eq (tgt := 21) C d_Desk_line_4 (by decide) (fun c4 => ?_) (fun c4 => ?_)
  · skip
    rw [bI_0] at c4
    refine j_null C d_Desk_line_21 ?_
    refine j_aret C E d_Desk_line_22 ?_
    refine ⟨?_, rfl, rfl, rfl⟩
    first | rw [if_pos c4] | rw [if_neg (by rw [c4]; decide)]
  · skip
    rw [bI_0, Bool.not_eq_false] at c4
    refine j_aload_n C d_Desk_line_7 rfl ?_
    refine j_gets C d_Desk_line_8 fl_Desk_14 cl_Desk rfl (by assumption) rfl hS.1.2.1 (fun t8 => ?_)
    refine j_gets C d_Desk_line_11 fl_Desk_84 cl_Orders rfl (by assumption) rfl hS.1.2.2.2.2.1 (fun t11 => ?_)
    refine j_iload_n C d_Desk_line_14 rfl ?_
    refine j_callVr C [.int x] d_Desk_line_15 ml_Desk_88 mv_Lines_find k_Lines_find ⟨_, _, rfl⟩ (by assumption) (c_Lines_find _ _ _ x hL0.1.1 hL0.1.2.1 (hL0.2.1 _ (chF_ok x).2)) (by decide) (by decide) rfl (Nat.le_of_ble_eq_true rfl) (Nat.le_of_ble_eq_true rfl) rfl (by simp [cat_rf, cat_int]) ?_
    refine j_goto (tgt := 22) C d_Desk_line_18 (by decide) ?_
    refine j_aret C E d_Desk_line_22 ?_
    refine ⟨?_, rfl, rfl, rfl⟩
    first | rw [if_pos c4] | rw [if_neg (by rw [c4]; decide)]

set_option maxHeartbeats 4000000 in
set_option maxRecDepth 100000 in
theorem c_Desk_head (l : Launch) (D : jD) (N0 : Nat) {tt : jT} {mi : jI} {mr : jR} {dk od ia ls ch : Nat} {it ma io : Nat → Nat} {M : Mt} (h : Dk tt mi mr dk od ia ls ch it ma io M) (hM : MI M) (x : Int32) : Ct l D N0 3 0 0 y_Desk_head b_Desk_head 3 (some .int) [va_rf (some dk), .int x] tt mi mr (ask tt mi mr (hdS M false x)) := by
  refine Ct.of "OrderDesk" (by decide +kernel) rfl (by simp [cat_rf, cat_int]) (Nat.le_of_ble_eq_true rfl) (fun X hXl hXd hXn C E I hWT => ?_)
  subst hXl hXd hXn
  obtain ⟨ms, OA, Cs0, F0, LM0, hS, hV, hO, hL0⟩ := id h
  have tdk := hS.1.1
  have hdk := hS.1.2.1
  have tod := hS.1.2.2.1
  have hoia := hS.1.2.2.2.1
  have hols := hS.1.2.2.2.2.1
  have tia := hS.1.2.2.2.2.2
  have hit : ∀ i, i < 200 → mr ia i = some (it i) := fun i hi => (hS.2 i hi).1
  refine j_aload_n C d_Desk_head_0 rfl ?_
  refine j_iload_n C d_Desk_head_1 rfl ?_
  refine j_callVr C [.int x] d_Desk_head_2 ml_Desk_94 mv_Desk_line k_Desk_line ⟨_, _, rfl⟩ tdk (c_Desk_line _ _ _ hS hL0 x) (by decide) (by decide) rfl (Nat.le_of_ble_eq_true rfl) (Nat.le_of_ble_eq_true rfl) rfl (by simp [cat_rf, cat_int]) ?_
  by_cases hp : posF x = true
  · rw [if_pos hp]
    cases hf : (Cs0 (chF x)).find? (fun l => decide (mi l 0 = x)) with
    | none =>
      refine j_astore_n C d_Desk_head_5 (Nat.le_of_ble_eq_true rfl) ?_
      refine j_aload_n C d_Desk_head_6 rfl ?_
      refine j_ifnonnull_n (tgt := 14) C d_Desk_head_7 (by decide) ?_
      refine j_iconst (v := (-1)) C d_Desk_head_10 (by decide) ?_
      refine j_goto (tgt := 21) C d_Desk_head_11 (by decide) ?_
      refine j_iret C E rfl rfl d_Desk_head_21 ?_
      exact ⟨rfl, rfl, rfl, -1, rfl, by rw [hdS, if_pos hp]; exact (noline hV hL0 hp ((hL0.find x).2.1 hf)).head⟩
    | some q =>
      obtain ⟨hqU, hqp⟩ := (hL0.find x).1 q hf
      obtain ⟨tq, hLLq, hszq⟩ := hL0.2.2.2.2.2.2.1 q (List.mem_append_right _ hqU)
      have hLSx := hL0.LSq hS hV hp hqU hqp
      have ho := hL0.2.2.2.2.2.2.2.2.2.2.2.2
      have k3 := (hL0.2.2.2.2.2.2.2.2.2.2.1 q hqU).2.2
      refine j_astore_n C d_Desk_head_5 (Nat.le_of_ble_eq_true rfl) ?_
      refine j_aload_n C d_Desk_head_6 rfl ?_
      refine j_ifnonnull_s (tgt := 14) C d_Desk_head_7 (by decide) ?_
      refine j_aload_n C d_Desk_head_14 rfl ?_
      refine j_getk (r := (LM0 q).head?) C d_Desk_head_15 fl_Desk_97 cl_Line rfl tq rfl hLLq.1 (fun t15 => ?_)
      refine j_callSi C [va_rf (LM0 q).head?] d_Desk_head_18 ml_Desk_102 ms_Orders_numberM k_Orders_numberM (c_Orders_numberM _ _ _ (LM0 q).head? ((LM0 q).head?.map io) (fun a e => ⟨(ho a ((k3 a).mp (List.mem_of_head? e)).1).1, io a, (ho a ((k3 a).mp (List.mem_of_head? e)).1).2.1, by rw [e]; rfl⟩) (fun e => by rw [e]; rfl)) (by decide) (by decide) rfl (Nat.le_of_ble_eq_true rfl) (Nat.le_of_ble_eq_true rfl) rfl (by simp [cat_rf, cat_int]) ?_
      refine j_iret C E rfl rfl d_Desk_head_21 ?_
      refine ⟨rfl, rfl, rfl, _, rfl, ?_⟩
      rw [hdS, if_pos hp, num_m hS (fun z hz => by obtain ⟨j, hj, -, hmj⟩ := ((k3 z).mp (List.mem_of_head? hz)).1; exact ⟨j, hj, ((hS.2 j hj).2.2.2.2.2.2.2 z (List.mem_of_mem_take hmj)).2.2⟩)]
      exact hLSx.head
  · rw [if_neg hp]
    refine j_astore_n C d_Desk_head_5 (Nat.le_of_ble_eq_true rfl) ?_
    refine j_aload_n C d_Desk_head_6 rfl ?_
    refine j_ifnonnull_n (tgt := 14) C d_Desk_head_7 (by decide) ?_
    refine j_iconst (v := (-1)) C d_Desk_head_10 (by decide) ?_
    refine j_goto (tgt := 21) C d_Desk_head_11 (by decide) ?_
    refine j_iret C E rfl rfl d_Desk_head_21 ?_
    exact ⟨rfl, rfl, rfl, -1, rfl, by rw [hdS, if_neg hp]⟩

set_option maxHeartbeats 4000000 in
set_option maxRecDepth 100000 in
theorem c_Desk_last (l : Launch) (D : jD) (N0 : Nat) {tt : jT} {mi : jI} {mr : jR} {dk od ia ls ch : Nat} {it ma io : Nat → Nat} {M : Mt} (h : Dk tt mi mr dk od ia ls ch it ma io M) (hM : MI M) (x : Int32) : Ct l D N0 3 0 0 y_Desk_last b_Desk_last 3 (some .int) [va_rf (some dk), .int x] tt mi mr (ask tt mi mr (hdS M true x)) := by
  refine Ct.of "OrderDesk" (by decide +kernel) rfl (by simp [cat_rf, cat_int]) (Nat.le_of_ble_eq_true rfl) (fun X hXl hXd hXn C E I hWT => ?_)
  subst hXl hXd hXn
  obtain ⟨ms, OA, Cs0, F0, LM0, hS, hV, hO, hL0⟩ := id h
  have tdk := hS.1.1
  have hdk := hS.1.2.1
  have tod := hS.1.2.2.1
  have hoia := hS.1.2.2.2.1
  have hols := hS.1.2.2.2.2.1
  have tia := hS.1.2.2.2.2.2
  have hit : ∀ i, i < 200 → mr ia i = some (it i) := fun i hi => (hS.2 i hi).1
  refine j_aload_n C d_Desk_last_0 rfl ?_
  refine j_iload_n C d_Desk_last_1 rfl ?_
  refine j_callVr C [.int x] d_Desk_last_2 ml_Desk_94 mv_Desk_line k_Desk_line ⟨_, _, rfl⟩ tdk (c_Desk_line _ _ _ hS hL0 x) (by decide) (by decide) rfl (Nat.le_of_ble_eq_true rfl) (Nat.le_of_ble_eq_true rfl) rfl (by simp [cat_rf, cat_int]) ?_
  by_cases hp : posF x = true
  · rw [if_pos hp]
    cases hf : (Cs0 (chF x)).find? (fun l => decide (mi l 0 = x)) with
    | none =>
      refine j_astore_n C d_Desk_last_5 (Nat.le_of_ble_eq_true rfl) ?_
      refine j_aload_n C d_Desk_last_6 rfl ?_
      refine j_ifnonnull_n (tgt := 14) C d_Desk_last_7 (by decide) ?_
      refine j_iconst (v := (-1)) C d_Desk_last_10 (by decide) ?_
      refine j_goto (tgt := 21) C d_Desk_last_11 (by decide) ?_
      refine j_iret C E rfl rfl d_Desk_last_21 ?_
      exact ⟨rfl, rfl, rfl, -1, rfl, by rw [hdS, if_pos hp]; exact (noline hV hL0 hp ((hL0.find x).2.1 hf)).last⟩
    | some q =>
      obtain ⟨hqU, hqp⟩ := (hL0.find x).1 q hf
      obtain ⟨tq, hLLq, hszq⟩ := hL0.2.2.2.2.2.2.1 q (List.mem_append_right _ hqU)
      have hLSx := hL0.LSq hS hV hp hqU hqp
      have ho := hL0.2.2.2.2.2.2.2.2.2.2.2.2
      have k3 := (hL0.2.2.2.2.2.2.2.2.2.2.1 q hqU).2.2
      refine j_astore_n C d_Desk_last_5 (Nat.le_of_ble_eq_true rfl) ?_
      refine j_aload_n C d_Desk_last_6 rfl ?_
      refine j_ifnonnull_s (tgt := 14) C d_Desk_last_7 (by decide) ?_
      refine j_aload_n C d_Desk_last_14 rfl ?_
      refine j_getk (r := (LM0 q).getLast?) C d_Desk_last_15 fl_Desk_105 cl_Line rfl tq rfl hLLq.2.1 (fun t15 => ?_)
      refine j_callSi C [va_rf (LM0 q).getLast?] d_Desk_last_18 ml_Desk_102 ms_Orders_numberM k_Orders_numberM (c_Orders_numberM _ _ _ (LM0 q).getLast? ((LM0 q).getLast?.map io) (fun a e => ⟨(ho a ((k3 a).mp (List.mem_of_getLast? e)).1).1, io a, (ho a ((k3 a).mp (List.mem_of_getLast? e)).1).2.1, by rw [e]; rfl⟩) (fun e => by rw [e]; rfl)) (by decide) (by decide) rfl (Nat.le_of_ble_eq_true rfl) (Nat.le_of_ble_eq_true rfl) rfl (by simp [cat_rf, cat_int]) ?_
      refine j_iret C E rfl rfl d_Desk_last_21 ?_
      refine ⟨rfl, rfl, rfl, _, rfl, ?_⟩
      rw [hdS, if_pos hp, num_m hS (fun z hz => by obtain ⟨j, hj, -, hmj⟩ := ((k3 z).mp (List.mem_of_getLast? hz)).1; exact ⟨j, hj, ((hS.2 j hj).2.2.2.2.2.2.2 z (List.mem_of_mem_take hmj)).2.2⟩)]
      exact hLSx.last
  · rw [if_neg hp]
    refine j_astore_n C d_Desk_last_5 (Nat.le_of_ble_eq_true rfl) ?_
    refine j_aload_n C d_Desk_last_6 rfl ?_
    refine j_ifnonnull_n (tgt := 14) C d_Desk_last_7 (by decide) ?_
    refine j_iconst (v := (-1)) C d_Desk_last_10 (by decide) ?_
    refine j_goto (tgt := 21) C d_Desk_last_11 (by decide) ?_
    refine j_iret C E rfl rfl d_Desk_last_21 ?_
    exact ⟨rfl, rfl, rfl, -1, rfl, by rw [hdS, if_neg hp]⟩

set_option maxHeartbeats 4000000 in
set_option maxRecDepth 100000 in
theorem c_Desk_size (l : Launch) (D : jD) (N0 : Nat) {tt : jT} {mi : jI} {mr : jR} {dk od ia ls ch : Nat} {it ma io : Nat → Nat} {M : Mt} (h : Dk tt mi mr dk od ia ls ch it ma io M) (hM : MI M) (x : Int32) : Ct l D N0 3 0 0 y_Desk_size b_Desk_size 3 (some .int) [va_rf (some dk), .int x] tt mi mr (pI (szV M x) tt mi mr) := by
  refine Ct.of "OrderDesk" (by decide +kernel) rfl (by simp [cat_rf, cat_int]) (Nat.le_of_ble_eq_true rfl) (fun X hXl hXd hXn C E I hWT => ?_)
  subst hXl hXd hXn
  obtain ⟨ms, OA, Cs0, F0, LM0, hS, hV, hO, hL0⟩ := id h
  have tdk := hS.1.1
  have hdk := hS.1.2.1
  have tod := hS.1.2.2.1
  have hoia := hS.1.2.2.2.1
  have hols := hS.1.2.2.2.2.1
  have tia := hS.1.2.2.2.2.2
  have hit : ∀ i, i < 200 → mr ia i = some (it i) := fun i hi => (hS.2 i hi).1
  refine j_iload_n C d_Desk_size_0 rfl ?_
  refine j_iconst (v := (-1)) C d_Desk_size_1 (by decide) ?_
  refine j_icmp_ne (tgt := 13) C d_Desk_size_2 (by decide) (fun c2 => ?_) (fun c2 => ?_)
  · skip
    refine j_aload_n C d_Desk_size_13 rfl ?_
    refine j_iload_n C d_Desk_size_14 rfl ?_
    refine j_callVr C [.int x] d_Desk_size_15 ml_Desk_94 mv_Desk_line k_Desk_line ⟨_, _, rfl⟩ tdk (c_Desk_line _ _ _ hS hL0 x) (by decide) (by decide) rfl (Nat.le_of_ble_eq_true rfl) (Nat.le_of_ble_eq_true rfl) rfl (by simp [cat_rf, cat_int]) ?_
    by_cases hp : posF x = true
    · rw [if_pos hp]
      cases hf : (Cs0 (chF x)).find? (fun l => decide (mi l 0 = x)) with
      | none =>
        refine j_astore_n C d_Desk_size_18 (Nat.le_of_ble_eq_true rfl) ?_
        refine j_aload_n C d_Desk_size_19 rfl ?_
        refine j_ifnonnull_n (tgt := 38) C d_Desk_size_20 (by decide) ?_
        refine j_iload_n C d_Desk_size_23 rfl ?_
        refine j_callSi C [.int x] d_Desk_size_24 ml_Desk_27 ms_Desk_isPosition k_Desk_isPosition (c_Desk_isPosition _ _ _ x) (by decide) (by decide) rfl (Nat.le_of_ble_eq_true rfl) (Nat.le_of_ble_eq_true rfl) rfl (by simp [cat_rf, cat_int]) ?_
        refine j_if_eq (tgt := 34) C d_Desk_size_27 (by decide) (fun c27 => ?_) (fun c27 => ?_)
        · skip
          exact absurd hp (by rw [bI_0.mp c27]; decide)
        · skip
          refine j_iconst (v := 0) C d_Desk_size_30 (by decide) ?_
          refine j_goto (tgt := 42) C d_Desk_size_31 (by decide) ?_
          refine j_iret C E rfl rfl d_Desk_size_42 ?_
          refine ⟨?_, rfl, rfl, rfl⟩
          have hc := (noline hV hL0 hp ((hL0.find x).2.1 hf)).count
          rw [inS_none] at hc
          rw [szV, if_pos (by simp [hp]), ← hc]
          rfl
      | some q =>
        obtain ⟨hqU, hqp⟩ := (hL0.find x).1 q hf
        obtain ⟨tq, hLLq, hszq⟩ := hL0.2.2.2.2.2.2.1 q (List.mem_append_right _ hqU)
        have hLSx := hL0.LSq hS hV hp hqU hqp
        have ho := hL0.2.2.2.2.2.2.2.2.2.2.2.2
        have k3 := (hL0.2.2.2.2.2.2.2.2.2.2.1 q hqU).2.2
        refine j_astore_n C d_Desk_size_18 (Nat.le_of_ble_eq_true rfl) ?_
        refine j_aload_n C d_Desk_size_19 rfl ?_
        refine j_ifnonnull_s (tgt := 38) C d_Desk_size_20 (by decide) ?_
        refine j_aload_n C d_Desk_size_38 rfl ?_
        refine j_geti C d_Desk_size_39 fl_Desk_113 cl_Line tq rfl ?_
        refine j_iret C E rfl rfl d_Desk_size_42 ?_
        refine ⟨?_, rfl, rfl, rfl⟩
        have hc := hLSx.count
        rw [inS_none] at hc
        rw [szV, if_pos (by simp [hp]), ← hc, hszq]
    · rw [if_neg hp]
      refine j_astore_n C d_Desk_size_18 (Nat.le_of_ble_eq_true rfl) ?_
      refine j_aload_n C d_Desk_size_19 rfl ?_
      refine j_ifnonnull_n (tgt := 38) C d_Desk_size_20 (by decide) ?_
      refine j_iload_n C d_Desk_size_23 rfl ?_
      refine j_callSi C [.int x] d_Desk_size_24 ml_Desk_27 ms_Desk_isPosition k_Desk_isPosition (c_Desk_isPosition _ _ _ x) (by decide) (by decide) rfl (Nat.le_of_ble_eq_true rfl) (Nat.le_of_ble_eq_true rfl) rfl (by simp [cat_rf, cat_int]) ?_
      refine j_if_eq (tgt := 34) C d_Desk_size_27 (by decide) (fun c27 => ?_) (fun c27 => ?_)
      · skip
        refine j_iconst (v := (-1)) C d_Desk_size_34 (by decide) ?_
        refine j_goto (tgt := 42) C d_Desk_size_35 (by decide) ?_
        refine j_iret C E rfl rfl d_Desk_size_42 ?_
        exact ⟨by rw [szV, if_neg (by simp [hp, c2])], rfl, rfl, rfl⟩
      · skip
        exact absurd ((Bool.not_eq_false _).mp (fun z => c27 (bI_0.mpr z))) hp
  · skip
    replace c2 : x = -1 := c2
    refine j_aload_n C d_Desk_size_5 rfl ?_
    refine j_gets C d_Desk_size_6 fl_Desk_14 cl_Desk rfl (by assumption) rfl hdk (fun t6 => ?_)
    refine j_geti C d_Desk_size_9 fl_Desk_112 cl_Orders (by assumption) rfl ?_
    refine j_iret C E rfl rfl d_Desk_size_12 ?_
    refine ⟨?_, rfl, rfl, rfl⟩
    have hc := (hO.LSq hS hV).count
    rw [inS_none] at hc
    subst c2
    rw [szV, if_pos (by simp), ← hc, hO.2.1]

set_option maxHeartbeats 4000000 in
set_option maxRecDepth 100000 in
theorem c_Desk_behind (l : Launch) (D : jD) (N0 : Nat) {tt : jT} {mi : jI} {mr : jR} {dk od ia ls ch : Nat} {it ma io : Nat → Nat} {M : Mt} (h : Dk tt mi mr dk od ia ls ch it ma io M) (hM : MI M) (x p : Int32) : Ct l D N0 2 0 0 y_Desk_behind b_Desk_behind 5 (some .int) [va_rf (some dk), .int x, .int p] tt mi mr (ask tt mi mr (bhS M x p)) := by
  refine Ct.of "OrderDesk" (by decide +kernel) rfl (by simp [cat_rf, cat_int]) (Nat.le_of_ble_eq_true rfl) (fun X hXl hXd hXn C E I hWT => ?_)
  subst hXl hXd hXn
  obtain ⟨ms, OA, Cs0, F0, LM0, hS, hV, hO, hL0⟩ := id h
  have tdk := hS.1.1
  have hdk := hS.1.2.1
  have tod := hS.1.2.2.1
  have hoia := hS.1.2.2.2.1
  have hols := hS.1.2.2.2.2.1
  have tia := hS.1.2.2.2.2.2
  have hit : ∀ i, i < 200 → mr ia i = some (it i) := fun i hi => (hS.2 i hi).1
  have hqF := qF_eq hV x
  refine j_aload_n C d_Desk_behind_0 rfl ?_
  refine j_gets C d_Desk_behind_1 fl_Desk_14 cl_Desk rfl (by assumption) rfl hdk (fun t1 => ?_)
  refine j_iload_n C d_Desk_behind_4 rfl ?_
  refine j_callVr C [.int x] d_Desk_behind_5 ml_Desk_23 mv_Orders_queued k_Orders_queued ⟨_, _, rfl⟩ tod (c_Orders_queued _ _ _ tod hoia hit x) (by decide) (by decide) rfl (Nat.le_of_ble_eq_true rfl) (Nat.le_of_ble_eq_true rfl) rfl (by simp [cat_rf, cat_int]) ?_
  rw [hqF]
  cases hQ : isQ M x with
  | false =>
    rw [show qD M it x = none by simp [qD, hQ]]
    refine j_astore_n C d_Desk_behind_8 (Nat.le_of_ble_eq_true rfl) ?_
    refine j_aload_n C d_Desk_behind_9 rfl ?_
    refine j_ifnonnull_n (tgt := 17) C d_Desk_behind_10 (by decide) ?_
    refine j_null C d_Desk_behind_13 ?_
    refine j_goto (tgt := 22) C d_Desk_behind_14 (by decide) ?_
    refine j_astore C d_Desk_behind_22 (Nat.le_of_ble_eq_true rfl) ?_
    refine j_aload C d_Desk_behind_24 rfl ?_
    refine j_ifnonnull_n (tgt := 33) C d_Desk_behind_26 (by decide) ?_
    refine j_iconst (v := (-1)) C d_Desk_behind_29 (by decide) ?_
    refine j_goto (tgt := 41) C d_Desk_behind_30 (by decide) ?_
    refine j_iret C E rfl rfl d_Desk_behind_41 ?_
    have hbb : bhB M x p = false := by simp [bhB, hQ]
    exact ⟨rfl, rfl, rfl, -1, rfl, by rw [bhS, if_neg (by rw [hbb]; decide)]⟩
  | true =>
    rw [show qD M it x = some (it (ixN x)) by simp [qD, hQ]]
    have hQ2 : itemF x = true ∧ qdM M (ixN x) = true := by simpa [isQ] using hQ
    obtain ⟨hi, hix⟩ : ixN x < 200 ∧ x = nI (ixN x) := itemF_spec hQ2.1
    have hw := hS.2 (ixN x) hi
    have hv := hV.2 (ixN x) hi
    refine j_astore_n C d_Desk_behind_8 (Nat.le_of_ble_eq_true rfl) ?_
    refine j_aload_n C d_Desk_behind_9 rfl ?_
    refine j_ifnonnull_s (tgt := 17) C d_Desk_behind_10 (by decide) ?_
    refine j_aload_n C d_Desk_behind_17 rfl ?_
    refine j_iload_n C d_Desk_behind_18 rfl ?_
    refine j_callVr C [.int p] d_Desk_behind_19 ml_Desk_58 mv_Item_of k_Item_of ⟨_, _, rfl⟩ hw.2.1 (c_Item_of _ _ _ hw.2.1 hv.2.2.2.1 (hM.1 _ hi).2.1 hw.2.2.2.1 hw.2.2.2.2.2.1 p) (by decide) (by decide) rfl (Nat.le_of_ble_eq_true rfl) (Nat.le_of_ble_eq_true rfl) rfl (by simp [cat_rf, cat_int]) ?_
    cases hof : ((ms (ixN x)).take (tkM M (ixN x)).length).find? (fun m => decide (mi m 1 = p)) with
    | none =>
      have hpn := (find_row hv.2.2.2.2 p).mp hof
      refine j_astore C d_Desk_behind_22 (Nat.le_of_ble_eq_true rfl) ?_
      refine j_aload C d_Desk_behind_24 rfl ?_
      refine j_ifnonnull_n (tgt := 33) C d_Desk_behind_26 (by decide) ?_
      refine j_iconst (v := (-1)) C d_Desk_behind_29 (by decide) ?_
      refine j_goto (tgt := 41) C d_Desk_behind_30 (by decide) ?_
      refine j_iret C E rfl rfl d_Desk_behind_41 ?_
      have hbb : bhB M x p = false := by simp [bhB, hpn]
      exact ⟨rfl, rfl, rfl, -1, rfl, by rw [bhS, if_neg (by rw [hbb]; decide)]⟩
    | some m =>
      have hmp : mi m 1 = p := by simpa using List.find?_some hof
      have hmt := List.mem_of_find?_eq_some hof
      have tm := (hw.2.2.2.2.2.2.2 m (List.mem_of_mem_take hmt)).1
      obtain ⟨P, S, hLSx, -, e4, ei, hel⟩ := mline hS hV hL0 hM hi hQ2.2 hmt
      have hpi : p ∈ tkM M (ixN x) := by rw [← hv.2.2.2.2]; exact List.mem_map.mpr ⟨m, hmt, hmp⟩
      refine j_astore C d_Desk_behind_22 (Nat.le_of_ble_eq_true rfl) ?_
      refine j_aload C d_Desk_behind_24 rfl ?_
      refine j_ifnonnull_s (tgt := 33) C d_Desk_behind_26 (by decide) ?_
      refine j_aload C d_Desk_behind_33 rfl ?_
      refine j_getk (r := S.head?) C d_Desk_behind_35 fl_Desk_108 cl_Member rfl tm rfl e4 (fun t35 => ?_)
      refine j_callSi C [va_rf S.head?] d_Desk_behind_38 ml_Desk_102 ms_Orders_numberM k_Orders_numberM (c_Orders_numberM _ _ _ S.head? (S.head?.map io) (fun a e => ⟨(hel a (by simp [List.mem_of_head? e])).1, io a, (hel a (by simp [List.mem_of_head? e])).2.1, by rw [e]; rfl⟩) (fun e => by rw [e]; rfl)) (by decide) (by decide) rfl (Nat.le_of_ble_eq_true rfl) (Nat.le_of_ble_eq_true rfl) rfl (by simp [cat_rf, cat_int]) ?_
      refine j_iret C E rfl rfl d_Desk_behind_41 ?_
      have hbb : bhB M x p = true := by simp [bhB, hQ, hpi, (hM.1 _ hi).2.2 p hpi]
      refine ⟨rfl, rfl, rfl, _, rfl, ?_⟩
      rw [bhS, if_pos hbb, num_m hS (fun z hz => (hel z (by simp [List.mem_of_head? hz])).2.2)]
      have h2 := hLSx.behind.head
      rw [ei, hmp] at h2
      have e : inS M (some (ixN x)) p = (fun j => inS M none p j && befM M (ixN x) j) := by funext j; simp [inS]
      rw [e]
      exact h2

theorem lk_neg {M : Mt} {x w : Int32} (hw : ¬ 0 ≤ w) : lkV M x w = -1 := by
  have hlt : w < 0 := Int32.not_le.mp hw
  have h0 : ¬ w = 0 := fun e => Int32.lt_irrefl (e ▸ hlt)
  have h1 : ¬ w = 1 := fun e => absurd (e ▸ hlt) (by decide)
  have h2 : ¬ w = 2 := fun e => absurd (e ▸ hlt) (by decide)
  have h3 : ¬ w = 3 := fun e => absurd (e ▸ hlt) (by decide)
  have h4 : w ≤ 3 := Int32.le_of_lt (Int32.lt_trans hlt (by decide))
  simp [lkV, h0, h1, h2, h3, lkP, h4]
set_option maxHeartbeats 4000000 in
set_option maxRecDepth 100000 in
theorem c_Desk_look (l : Launch) (D : jD) (N0 : Nat) {tt : jT} {mi : jI} {mr : jR} {dk od ia ls ch : Nat} {it ma io : Nat → Nat} {M : Mt} (h : Dk tt mi mr dk od ia ls ch it ma io M) (hM : MI M) (x w : Int32) : Ct l D N0 1 0 0 y_Desk_look b_Desk_look 4 (some .int) [va_rf (some dk), .int x, .int w] tt mi mr (pI (lkV M x w) tt mi mr) := by
  refine Ct.of "OrderDesk" (by decide +kernel) rfl (by simp [cat_rf, cat_int]) (Nat.le_of_ble_eq_true rfl) (fun X hXl hXd hXn C E I hWT => ?_)
  subst hXl hXd hXn
  obtain ⟨ms, OA, Cs0, F0, LM0, hS, hV, hO, hL0⟩ := id h
  have tdk := hS.1.1
  have hdk := hS.1.2.1
  have tod := hS.1.2.2.1
  have hoia := hS.1.2.2.2.1
  have hols := hS.1.2.2.2.2.1
  have tia := hS.1.2.2.2.2.2
  have hit : ∀ i, i < 200 → mr ia i = some (it i) := fun i hi => (hS.2 i hi).1
  refine j_aload_n C d_Desk_look_0 rfl ?_
  refine j_gets C d_Desk_look_1 fl_Desk_14 cl_Desk rfl (by assumption) rfl hdk (fun t1 => ?_)
  refine j_iload_n C d_Desk_look_4 rfl ?_
  refine j_callVi C [.int x] d_Desk_look_5 ml_Desk_19 mv_Orders_isItem k_Orders_isItem ⟨_, _, rfl⟩ tod (c_Orders_isItem _ _ _ tod hoia x) (by decide) (by decide) rfl (Nat.le_of_ble_eq_true rfl) (Nat.le_of_ble_eq_true rfl) rfl (by simp [cat_rf, cat_int]) ?_
  refine j_if_eq (tgt := 15) C d_Desk_look_8 (by decide) (fun c8 => ?_) (fun c8 => ?_)
  · skip
    rw [bI_0] at c8
    have hres : lkV M x w = -1 := by simp [lkV, c8]
    refine j_iconst (v := (-1)) C d_Desk_look_15 (by decide) ?_
    refine j_iret C E rfl rfl d_Desk_look_16 ?_
    exact ⟨by rw [hres], rfl, rfl, rfl⟩
  · skip
    rw [bI_0, Bool.not_eq_false] at c8
    obtain ⟨hi, hix⟩ : ixN x < 200 ∧ x = nI (ixN x) := itemF_spec c8
    have hw := hS.2 (ixN x) hi
    have hv := hV.2 (ixN x) hi
    refine j_iload_n C d_Desk_look_11 rfl ?_
    refine j_if_ge (tgt := 17) C d_Desk_look_12 (by decide) (fun c12 => ?_) (fun c12 => ?_)
    · skip
      refine j_aload_n C d_Desk_look_17 rfl ?_
      refine j_gets C d_Desk_look_18 fl_Desk_14 cl_Desk rfl (by assumption) rfl hdk (fun t18 => ?_)
      refine j_gets C d_Desk_look_21 fl_Desk_30 cl_Orders rfl (by assumption) rfl hoia (fun t21 => ?_)
      refine j_iload_n C d_Desk_look_24 rfl ?_
      refine j_aalds C (ixN x) d_Desk_look_25 (by assumption) (by decide) hix hi (by decide) (hit _ hi) (fun t25 => ?_)
      refine j_astore_n C d_Desk_look_26 (Nat.le_of_ble_eq_true rfl) ?_
      refine j_iload_n C d_Desk_look_27 rfl ?_
      have tI := hw.2.1
      by_cases w0 : w = 0
      · subst w0
        refine j_tabIn (tgt := 60) (off := 32) C d_Desk_look_28 (by decide) (by decide) rfl (by decide) ?_
        refine j_aload_n C d_Desk_look_60 rfl ?_
        refine j_geti C d_Desk_look_61 fl_Desk_114 cl_Item (by assumption) rfl ?_
        refine j_if_eq (tgt := 71) C d_Desk_look_64 (by decide) (fun c64 => ?_) (fun c64 => ?_)
        · skip
          rw [hv.1, bI_0] at c64
          refine j_iconst (v := 0) C d_Desk_look_71 (by decide) ?_
          refine j_iret C E rfl rfl d_Desk_look_72 ?_
          exact ⟨by simp [lkV, c8, c64, bI], rfl, rfl, rfl⟩
        · skip
          rw [hv.1, bI_0, Bool.not_eq_false] at c64
          refine j_iconst (v := 1) C d_Desk_look_67 (by decide) ?_
          refine j_goto (tgt := 72) C d_Desk_look_68 (by decide) ?_
          refine j_iret C E rfl rfl d_Desk_look_72 ?_
          exact ⟨by simp [lkV, c8, c64, bI], rfl, rfl, rfl⟩
      by_cases w1 : w = 1
      · subst w1
        refine j_tabIn (tgt := 73) (off := 45) C d_Desk_look_28 (by decide) (by decide) rfl (by decide) ?_
        refine j_aload_n C d_Desk_look_73 rfl ?_
        refine j_geti C d_Desk_look_74 fl_Desk_114 cl_Item (by assumption) rfl ?_
        refine j_if_eq (tgt := 87) C d_Desk_look_77 (by decide) (fun c77 => ?_) (fun c77 => ?_)
        · skip
          rw [hv.1, bI_0] at c77
          refine j_iconst (v := 0) C d_Desk_look_87 (by decide) ?_
          refine j_iret C E rfl rfl d_Desk_look_88 ?_
          refine ⟨?_, rfl, rfl, rfl⟩
          first | (rw [hv.2.1]; simp [lkV, c8, c77]; done) | simp [lkV, c8, c77]
        · skip
          rw [hv.1, bI_0, Bool.not_eq_false] at c77
          refine j_aload_n C d_Desk_look_80 rfl ?_
          refine j_geti C d_Desk_look_81 fl_Desk_117 cl_Item (by assumption) rfl ?_
          refine j_goto (tgt := 88) C d_Desk_look_84 (by decide) ?_
          refine j_iret C E rfl rfl d_Desk_look_88 ?_
          refine ⟨?_, rfl, rfl, rfl⟩
          first | (rw [hv.2.1]; simp [lkV, c8, c77]; done) | simp [lkV, c8, c77]
      by_cases w2 : w = 2
      · subst w2
        refine j_tabIn (tgt := 89) (off := 61) C d_Desk_look_28 (by decide) (by decide) rfl (by decide) ?_
        refine j_aload_n C d_Desk_look_89 rfl ?_
        refine j_geti C d_Desk_look_90 fl_Desk_114 cl_Item (by assumption) rfl ?_
        refine j_if_eq (tgt := 103) C d_Desk_look_93 (by decide) (fun c93 => ?_) (fun c93 => ?_)
        · skip
          rw [hv.1, bI_0] at c93
          refine j_iconst (v := 0) C d_Desk_look_103 (by decide) ?_
          refine j_iret C E rfl rfl d_Desk_look_104 ?_
          refine ⟨?_, rfl, rfl, rfl⟩
          first | (rw [hv.2.2.1]; simp [lkV, c8, c93]; done) | simp [lkV, c8, c93]
        · skip
          rw [hv.1, bI_0, Bool.not_eq_false] at c93
          refine j_aload_n C d_Desk_look_96 rfl ?_
          refine j_geti C d_Desk_look_97 fl_Desk_120 cl_Item (by assumption) rfl ?_
          refine j_goto (tgt := 104) C d_Desk_look_100 (by decide) ?_
          refine j_iret C E rfl rfl d_Desk_look_104 ?_
          refine ⟨?_, rfl, rfl, rfl⟩
          first | (rw [hv.2.2.1]; simp [lkV, c8, c93]; done) | simp [lkV, c8, c93]
      by_cases w3 : w = 3
      · subst w3
        refine j_tabIn (tgt := 105) (off := 77) C d_Desk_look_28 (by decide) (by decide) rfl (by decide) ?_
        refine j_aload_n C d_Desk_look_105 rfl ?_
        refine j_geti C d_Desk_look_106 fl_Desk_50 cl_Item (by assumption) rfl ?_
        refine j_iret C E rfl rfl d_Desk_look_109 ?_
        exact ⟨by rw [hv.2.2.2.1]; simp [lkV, c8], rfl, rfl, rfl⟩
      refine j_tabOut (tgt := 110) C d_Desk_look_28 (w_out w0 w1 w2 w3) (by decide) ?_
      obtain ⟨j, hj, ew⟩ := nI_of (x := w) (fun z => Int32.not_lt.mpr c12 z)
      have hj4 : 4 ≤ j := by
        have n0 : j ≠ 0 := fun z => w0 (by rw [ew, z]; rfl)
        have n1 : j ≠ 1 := fun z => w1 (by rw [ew, z]; rfl)
        have n2 : j ≠ 2 := fun z => w2 (by rw [ew, z]; rfl)
        have n3 : j ≠ 3 := fun z => w3 (by rw [ew, z]; rfl)
        omega
      have ew4 : w - 4 = nI (j - 4) := by rw [ew, show (4 : Int32) = nI 4 from rfl]; exact pk_sub hj4
      have hw3 : ¬ w ≤ 3 := by rw [ew, show (3 : Int32) = nI 3 from rfl, nI_leI (by omega) (by omega)]; omega
      refine j_iload_n C d_Desk_look_110 rfl ?_
      refine j_iconst (v := 4) C d_Desk_look_111 (by decide) ?_
      refine j_isub C d_Desk_look_112 ?_
      refine j_aload_n C d_Desk_look_113 rfl ?_
      refine j_geti C d_Desk_look_114 fl_Desk_50 cl_Item (by assumption) rfl ?_
      refine j_icmp_ge (tgt := 134) C d_Desk_look_117 (by decide) (fun c117 => ?_) (fun c117 => ?_)
      · skip
        rw [hv.2.2.2.1] at c117
        refine j_iconst (v := (-1)) C d_Desk_look_134 (by decide) ?_
        refine j_iret C E rfl rfl d_Desk_look_135 ?_
        exact ⟨by simp [lkV, c8, w0, w1, w2, w3, lkP, hw3, c117], rfl, rfl, rfl⟩
      · skip
        rw [hv.2.2.2.1] at c117
        have hjl : j - 4 < (tkM M (ixN x)).length := by
          rw [ew4, nI_leI (by have := (hM.1 _ hi).2.1; omega) (by omega)] at c117
          omega
        obtain ⟨m, hm⟩ := getE (ms := ms (ixN x)) (k := j - 4) (by rw [hw.2.2.2.2.2.1.1]; have := (hM.1 _ hi).2.1; omega)
        refine j_aload_n C d_Desk_look_120 rfl ?_
        refine j_gets C d_Desk_look_121 fl_Desk_123 cl_Item rfl (by assumption) rfl hw.2.2.2.1 (fun t121 => ?_)
        refine j_iload_n C d_Desk_look_124 rfl ?_
        refine j_iconst (v := 4) C d_Desk_look_125 (by decide) ?_
        refine j_isub C d_Desk_look_126 ?_
        refine j_aalds C (j - 4) d_Desk_look_127 (by assumption) (by decide) ew4 (by have := (hM.1 _ hi).2.1; omega) (by decide) ((hw.2.2.2.2.2.1.2 _ (by have := (hM.1 _ hi).2.1; omega)).trans hm) (fun t127 => ?_)
        refine j_geti C d_Desk_look_128 fl_Desk_127 cl_Member (by assumption) rfl ?_
        refine j_goto (tgt := 135) C d_Desk_look_131 (by decide) ?_
        refine j_iret C E rfl rfl d_Desk_look_135 ?_
        refine ⟨?_, rfl, rfl, rfl⟩
        have e5 : (tkM M (ixN x))[j - 4]? = some (mi m 1) := by rw [← hv.2.2.2.2, List.getElem?_map, List.getElem?_take_of_lt hjl, hm]; rfl
        simp only [lkV, c8, w0, w1, w2, w3, lkP, hw3, c117, if_true, if_false]
        rw [ew4, nI_clamp (by omega), e5]
        rfl
    · skip
      have hres : lkV M x w = -1 := lk_neg c12
      refine j_iconst (v := (-1)) C d_Desk_look_15 (by decide) ?_
      refine j_iret C E rfl rfl d_Desk_look_16 ?_
      exact ⟨by rw [hres], rfl, rfl, rfl⟩

set_option maxHeartbeats 4000000 in
set_option maxRecDepth 100000 in
theorem c_Desk_lines (l : Launch) (D : jD) (N0 : Nat) {tt : jT} {mi : jI} {mr : jR} {dk od ia ls ch : Nat} {it ma io : Nat → Nat} {M : Mt} (h : Dk tt mi mr dk od ia ls ch it ma io M) (hM : MI M) : Ct l D N0 0 0 0 y_Desk_lines b_Desk_lines 1 (some .int) [va_rf (some dk)] tt mi mr (ask tt mi mr (lnS M)) := by
  refine Ct.of "OrderDesk" (by decide +kernel) rfl (by simp [cat_rf, cat_int]) (Nat.le_of_ble_eq_true rfl) (fun X hXl hXd hXn C E I hWT => ?_)
  subst hXl hXd hXn
  obtain ⟨ms, OA, Cs0, F0, LM0, hS, hV, hO, hL0⟩ := id h
  have tdk := hS.1.1
  have hdk := hS.1.2.1
  have tod := hS.1.2.2.1
  have hoia := hS.1.2.2.2.1
  have hols := hS.1.2.2.2.2.1
  have tia := hS.1.2.2.2.2.2
  have hit : ∀ i, i < 200 → mr ia i = some (it i) := fun i hi => (hS.2 i hi).1
  refine j_aload_n C d_Desk_lines_0 rfl ?_
  refine j_gets C d_Desk_lines_1 fl_Desk_14 cl_Desk rfl (by assumption) rfl hdk (fun t1 => ?_)
  refine j_gets C d_Desk_lines_4 fl_Desk_84 cl_Orders rfl (by assumption) rfl hols (fun t4 => ?_)
  refine j_geti C d_Desk_lines_7 fl_Desk_130 cl_Lines (by assumption) rfl ?_
  refine j_iret C E rfl rfl d_Desk_lines_10 ?_
  exact ⟨rfl, rfl, rfl, _, rfl, lines_ok hS hV hL0 hM⟩
end
section
/-! CONSTRUCTORS, 1: Member, Line, Item, Item.begin -/
theorem df_Item : ∀ j, j < 8 → defaultValue (tyOf 0 j) = vp_V (flds 0 (fun _ => 0) (fun _ => none)) j := fun j hj => by rcases (show j = 0 ∨ j = 1 ∨ j = 2 ∨ j = 3 ∨ j = 4 ∨ j = 5 ∨ j = 6 ∨ j = 7 by omega) with rfl | rfl | rfl | rfl | rfl | rfl | rfl | rfl <;> rfl
theorem df_Member : ∀ j, j < 5 → defaultValue (tyOf 1 j) = vp_V (flds 1 (fun _ => 0) (fun _ => none)) j := fun j hj => by rcases (show j = 0 ∨ j = 1 ∨ j = 2 ∨ j = 3 ∨ j = 4 by omega) with rfl | rfl | rfl | rfl | rfl <;> rfl
theorem df_Line : ∀ j, j < 5 → defaultValue (tyOf 2 j) = vp_V (flds 2 (fun _ => 0) (fun _ => none)) j := fun j hj => by rcases (show j = 0 ∨ j = 1 ∨ j = 2 ∨ j = 3 ∨ j = 4 by omega) with rfl | rfl | rfl | rfl | rfl <;> rfl
theorem df_Lines : ∀ j, j < 3 → defaultValue (tyOf 3 j) = vp_V (flds 3 (fun _ => 0) (fun _ => none)) j := fun j hj => by rcases (show j = 0 ∨ j = 1 ∨ j = 2 by omega) with rfl | rfl | rfl <;> rfl
theorem df_Orders : ∀ j, j < 6 → defaultValue (tyOf 4 j) = vp_V (flds 4 (fun _ => 0) (fun _ => none)) j := fun j hj => by rcases (show j = 0 ∨ j = 1 ∨ j = 2 ∨ j = 3 ∨ j = 4 ∨ j = 5 by omega) with rfl | rfl | rfl | rfl | rfl | rfl <;> rfl
theorem df_Desk : ∀ j, j < 1 → defaultValue (tyOf 5 j) = vp_V (flds 5 (fun _ => 0) (fun _ => none)) j := fun j hj => by rcases (show j = 0 by omega) with rfl <;> rfl
theorem df_Model : ∀ j, j < 6 → defaultValue (tyOf 6 j) = vp_V (flds 6 (fun _ => 0) (fun _ => none)) j := fun j hj => by rcases (show j = 0 ∨ j = 1 ∨ j = 2 ∨ j = 3 ∨ j = 4 ∨ j = 5 by omega) with rfl | rfl | rfl | rfl | rfl | rfl <;> rfl
/-- what was there is there -/
def Ext (tt tt' : jT) : Prop := ∀ b q, tt b = some q → tt' b = some q
theorem Ext.refl {tt : jT} : Ext tt tt := fun _ _ h => h
theorem Ext.trans {t1 t2 t3 : jT} (h1 : Ext t1 t2) (h2 : Ext t2 t3) : Ext t1 t3 := fun b q h => h2 b q (h1 b q h)
theorem Ext.new {tt : jT} {q : Nat} {k : Nat ⊕ (Nat × Nat)} (hq : tt q = none) : Ext tt (va_up tt q (some k)) := fun b p hb => by
  rw [va_up_ne _ _ (fun e => by rw [e, hq] at hb; cases hb)]; exact hb
theorem fresh_ne {tt : jT} {a b : Nat} {q : Nat ⊕ (Nat × Nat)} (ha : tt a = some q) (hb : tt b = none) : a ≠ b := fun e => by rw [e, hb] at ha; cases ha
/-- old cells but those of S hold what they held -/
def Old (S : Nat → Prop) (tt : jT) (mi : jI) (mr : jR) (mi' : jI) (mr' : jR) : Prop := ∀ b q, tt b = some q → ¬ S b → mi' b = mi b ∧ mr' b = mr b
theorem Old.refl {S : Nat → Prop} {tt : jT} {mi : jI} {mr : jR} : Old S tt mi mr mi mr := fun _ _ _ _ => ⟨rfl, rfl⟩
theorem Old.trans {S : Nat → Prop} {t1 t2 : jT} {mi mi1 mi2 : jI} {mr mr1 mr2 : jR} (he : Ext t1 t2) (h1 : Old S t1 mi mr mi1 mr1) (h2 : Old S t2 mi1 mr1 mi2 mr2) : Old S t1 mi mr mi2 mr2 := fun b q hb hs => ⟨(h2 b q (he b q hb) hs).1.trans (h1 b q hb hs).1, (h2 b q (he b q hb) hs).2.trans (h1 b q hb hs).2⟩
theorem Old.mono {S S' : Nat → Prop} {tt : jT} {mi mi' : jI} {mr mr' : jR} (h : Old S tt mi mr mi' mr') (hs : ∀ b q, tt b = some q → S b → S' b) : Old S' tt mi mr mi' mr' := fun b q hb hn => h b q hb (fun z => hn (hs b q hb z))
theorem Old.new {S : Nat → Prop} {tt : jT} {mi : jI} {mr : jR} {q : Nat} {f : Nat → Int32} {g : Nat → Option Nat} (hq : tt q = none) : Old S tt mi mr (va_up mi q f) (va_up mr q g) := fun b p hb _ => by
  have := fresh_ne hb hq
  exact ⟨va_up_ne _ _ this, va_up_ne _ _ this⟩
theorem Old.puti {S : Nat → Prop} {tt : jT} {mi : jI} {mr : jR} {a k : Nat} {x : Int32} (h : S a) : Old S tt mi mr (up2 mi a k x) mr := fun b _ _ hs => ⟨up2_off _ _ _ _ (fun e => hs (e ▸ h)), rfl⟩
theorem Old.putr {S : Nat → Prop} {tt : jT} {mi : jI} {mr : jR} {a k : Nat} {x : Option Nat} (h : S a) : Old S tt mi mr mi (up2 mr a k x) := fun b _ _ hs => ⟨rfl, up2_off _ _ _ _ (fun e => hs (e ▸ h))⟩

set_option maxHeartbeats 4000000 in
set_option maxRecDepth 100000 in
theorem c_Member_init (l : Launch) (D : jD) (N0 : Nat) {tt : jT} {mi : jI} {mr : jR} {a : Nat} : Ct l D N0 1 0 0 y_Member_init b_Member_init 1 none [va_rf (some a)] tt mi mr (pV tt mi mr) := by
  refine Ct.of "OrderDesk$Member" (by decide +kernel) rfl (by simp [cat_rf, cat_int]) (Nat.le_of_ble_eq_true rfl) (fun X hXl hXd hXn C E I hWT => ?_)
  subst hXl hXd hXn
  replace I := I rfl
  refine j_aload_n C d_Member_init_0 rfl ?_
  refine j_obj C d_Member_init_1 ml_Member_1 (by decide) rfl (by simp [cat_rf, cat_int]) ?_
  refine j_vret C E d_Member_init_4 ?_
  exact ⟨rfl, rfl, rfl, rfl⟩

set_option maxHeartbeats 4000000 in
set_option maxRecDepth 100000 in
theorem c_Line_init (l : Launch) (D : jD) (N0 : Nat) {tt : jT} {mi : jI} {mr : jR} {a : Nat} : Ct l D N0 1 0 0 y_Line_init b_Line_init 1 none [va_rf (some a)] tt mi mr (pV tt mi mr) := by
  refine Ct.of "OrderDesk$Line" (by decide +kernel) rfl (by simp [cat_rf, cat_int]) (Nat.le_of_ble_eq_true rfl) (fun X hXl hXd hXn C E I hWT => ?_)
  subst hXl hXd hXn
  replace I := I rfl
  refine j_aload_n C d_Line_init_0 rfl ?_
  refine j_obj C d_Line_init_1 ml_Line_1 (by decide) rfl (by simp [cat_rf, cat_int]) ?_
  refine j_vret C E d_Line_init_4 ?_
  exact ⟨rfl, rfl, rfl, rfl⟩

set_option maxHeartbeats 4000000 in
set_option maxRecDepth 100000 in
theorem c_Item_begin (l : Launch) (D : jD) (N0 : Nat) {tt : jT} {mi : jI} {mr : jR} {a M : Nat} {ms : List Nat} (ha : tt a = some (.inl 0)) (hM : mr a 1 = some M) (hms : rowM mr M ms) (hnd : ms.Nodup) (ht : ∀ m ∈ ms, tt m = some (.inl 1)) : Ct l D N0 0 0 0 y_Item_begin b_Item_begin 2 none [va_rf (some a)] tt mi mr (fun v tt' mi' mr' => v = none ∧ tt' = tt ∧ mi' = mi ∧ (∀ b q, tt b = some q → b ∉ ms → mr' b = mr b) ∧ ∀ m ∈ ms, mr' m = va_up (mr m) 0 (some a)) := by
  refine Ct.of "OrderDesk$Item" (by decide +kernel) rfl (by simp [cat_rf, cat_int]) (Nat.le_of_ble_eq_true rfl) (fun X hXl hXd hXn C E I hWT => ?_)
  subst hXl hXd hXn
  refine j_iconst (v := 0) C d_Item_begin_0 (by decide) ?_
  refine j_istore_n C d_Item_begin_1 (Nat.le_of_ble_eq_true rfl) ?_
  have tM : tt M = some (.inr (1, 8)) := hWT a _ 1 _ M ha rfl hM
  have haN : a ∉ ms := fun z => by have := ht a z; rw [ha] at this; cases this
  have hMN : M ∉ ms := fun z => by have := ht M z; rw [tM] at this; cases this
  have loop : ∀ (n k : Nat) (mr2 : jR), k ≤ 8 → 8 < k + n → (∀ b q, tt b = some q → b ∉ ms → mr2 b = mr b) → (∀ m ∈ ms, mr2 m = if m ∈ ms.take k then va_up (mr m) 0 (some a) else mr m) → J X tt mi mr2 0 0 2 [some (va_rf (some a)), some (.int (nI k))] [] := by
    intro n
    induction n with
    | zero => intro k mr2 h1 h2; exact absurd h2 (by omega)
    | succ n ih =>
      intro k mr2 hk hn hO hN
      refine j_iload_n C d_Item_begin_2 rfl ?_
      refine j_bipush (v := 8) C d_Item_begin_3 (by decide) ?_
      refine j_icmp_ge (tgt := 24) C d_Item_begin_5 (by decide) (fun c5 => ?_) (fun c5 => ?_)
      · skip
        rw [show (8 : Int32) = nI 8 from rfl, nI_leI (by omega) (by omega)] at c5
        have ek : k = 8 := by omega
        subst ek
        refine j_vret C E d_Item_begin_24 ?_
        exact ⟨rfl, rfl, rfl, fun b q hb hn => hO b q hb hn, fun m hm => by rw [hN m hm, if_pos (by rw [List.take_of_length_le (by rw [hms.1]; omega)]; exact hm)]⟩
      · skip
        rw [show (8 : Int32) = nI 8 from rfl, nI_leI (by omega) (by omega)] at c5
        obtain ⟨m, hm⟩ := getE (ms := ms) (k := k) (by rw [hms.1]; omega)
        have tm := ht m (List.mem_of_getElem? hm)
        refine j_aload_n C d_Item_begin_8 rfl ?_
        refine j_gets (b := M) C d_Item_begin_9 fl_Item_11 cl_Item rfl (by assumption) rfl (by rw [hO a _ ha haN]; exact hM) (fun t9 => ?_)
        refine j_iload_n C d_Item_begin_12 rfl ?_
        refine j_aalds (b := m) C k d_Item_begin_13 (by assumption) (by decide) rfl (by omega) (by decide) (by rw [hO M _ tM hMN]; exact (hms.2 k (by omega)).trans hm) (fun t13 => ?_)
        refine j_aload_n C d_Item_begin_14 rfl ?_
        refine j_putr C d_Item_begin_15 fl_Item_20 cl_Member (fun C T N h => by cases h; exact Or.inl rfl) rfl (by assumption) (by first | assumption | (intro b hb; cases hb; assumption) | (intro b hb; cases hb)) (fun f g => ⟨rfl, Nat.le_of_ble_eq_true rfl⟩) rfl (fun mr15 hr15 => ?_)
        refine j_iinc C d_Item_begin_18 rfl (nI_1 k) ?_
        refine j_goto (tgt := 2) C d_Item_begin_21 (by decide) ?_
        refine ih (k + 1) mr15 (by omega) (by omega) (fun b q hb hn => ?_) (fun x hx => ?_)
        · rw [hr15, up2_off _ _ _ _ (fun e => hn (by rw [e]; exact List.mem_of_getElem? hm)), hO b q hb hn]
        · by_cases e : x = m
          · subst e
            rw [hr15, up2_row, hN x hx, if_neg (not_mem_take hnd hm), if_pos ((take_succ_mem hm).mpr (Or.inr rfl))]
          · rw [hr15, up2_off _ _ _ _ e, hN x hx]
            by_cases z : x ∈ ms.take k
            · rw [if_pos z, if_pos ((take_succ_mem hm).mpr (Or.inl z))]
            · rw [if_neg z, if_neg (fun w => ((take_succ_mem hm).mp w).elim z e)]
  exact loop 9 0 mr (by omega) (by omega) (fun _ _ _ _ => rfl) (fun m hm => by simp)

/-- what Item(num) leaves: its array M of eight new members ms -/
def itemP (tt : jT) (mi : jI) (mr : jR) (a : Nat) (num : Int32) : jPost := fun v tt' mi' mr' => v = none ∧ Ext tt tt' ∧ Old (fun b => b = a) tt mi mr mi' mr' ∧ mi' a = va_up (mi a) 0 num ∧ ∃ (M : Nat) (ms : List Nat), tt M = none ∧ tt' M = some (.inr (1, 8)) ∧ mr' a = va_up (mr a) 1 (some M) ∧ rowM mr' M ms ∧ ms.Nodup ∧ ∀ m ∈ ms, tt m = none ∧ tt' m = some (.inl 1) ∧ mi' m = (fun _ => 0) ∧ mr' m = (fun _ => none)

set_option maxHeartbeats 4000000 in
set_option maxRecDepth 100000 in
theorem c_Item_init (l : Launch) (D : jD) (N0 : Nat) {tt : jT} {mi : jI} {mr : jR} {a : Nat} (ha : tt a = some (.inl 0)) (num : Int32) : Ct l D N0 2 9 48 y_Item_init b_Item_init 3 none [va_rf (some a), .int num] tt mi mr (itemP tt mi mr a num) := by
  refine Ct.of "OrderDesk$Item" (by decide +kernel) rfl (by simp [cat_rf, cat_int]) (Nat.le_of_ble_eq_true rfl) (fun X hXl hXd hXn C E I hWT => ?_)
  subst hXl hXd hXn
  replace I := I rfl
  refine j_aload_n C d_Item_init_0 rfl ?_
  refine j_obj C d_Item_init_1 ml_Item_1 (by decide) rfl (by simp [cat_rf, cat_int]) ?_
  refine j_aload_n C d_Item_init_4 rfl ?_
  refine j_bipush (v := 8) C d_Item_init_5 (by decide) ?_
  refine j_anew C (t := 1) 8 d_Item_init_7 (by decide) cn_Item_9 rfl (by decide) (Nat.le_of_ble_eq_true rfl) (Nat.le_of_ble_eq_true rfl) (fun q7 hq7 => ?_)
  have haq7 : a ≠ q7 := fresh_ne ha hq7
  refine j_putr C d_Item_init_10 fl_Item_11 cl_Item (fun C T N h => by cases h; exact Or.inr ⟨rfl, I, rfl⟩) rfl (by rw [va_up_ne _ _ haq7]; exact ha) (by intro b hb; cases hb; exact va_up_self _ _ _) (fun f g => ⟨rfl, Nat.le_of_ble_eq_true rfl⟩) rfl (fun mr10 hr10 => ?_)
  refine j_aload_n C d_Item_init_13 rfl ?_
  refine j_iload_n C d_Item_init_14 rfl ?_
  refine j_puti C d_Item_init_15 fl_Item_15 cl_Item (fun C T N h => by cases h; exact Or.inr ⟨rfl, I, rfl⟩) (by rw [va_up_ne _ _ haq7]; exact ha) (fun f g => ⟨rfl, Nat.le_of_ble_eq_true rfl⟩) rfl rfl (fun mi15 hm15 => ?_)
  refine j_iconst (v := 0) C d_Item_init_18 (by decide) ?_
  refine j_istore_n C d_Item_init_19 (Nat.le_of_ble_eq_true rfl) ?_
  have haM := haq7
  have hMf := hq7
  have loop : ∀ (n k : Nat) (tt2 : jT) (mi2 : jI) (mr2 : jR) (ms : List Nat), k ≤ 8 → 8 < k + n → (Ext tt tt2 ∧ Old (fun b => b = a) tt mi mr mi2 mr2 ∧ mi2 a = va_up (mi a) 0 num ∧ tt2 q7 = some (.inr (1, 8)) ∧ mr2 a = va_up (mr a) 1 (some q7) ∧ ms.length = k ∧ (∀ j, j < k → mr2 q7 j = ms[j]?) ∧ ms.Nodup ∧ ∀ m ∈ ms, tt m = none ∧ tt2 m = some (.inl 1) ∧ mi2 m = (fun _ => 0) ∧ mr2 m = (fun _ => none)) → J X tt2 mi2 mr2 (1 + k) (8 + 5 * k) 20 [some (va_rf (some a)), some (.int num), some (.int (nI k))] [] := by
    intro n
    induction n with
    | zero => intro k tt2 mi2 mr2 ms h1 h2; exact absurd h2 (by omega)
    | succ n ih =>
      intro k tt2 mi2 mr2 ms hk hn hinv
      obtain ⟨i1, i2, i3, i4, i5, i6, i7, i8, i9⟩ := hinv
      refine j_iload_n C d_Item_init_20 rfl ?_
      refine j_bipush (v := 8) C d_Item_init_21 (by decide) ?_
      refine j_icmp_ge (tgt := 45) C d_Item_init_23 (by decide) (fun c23 => ?_) (fun c23 => ?_)
      · skip
        rw [show (8 : Int32) = nI 8 from rfl, nI_leI (by omega) (by omega)] at c23
        have ek : k = 8 := by omega
        subst ek
        refine j_vret C E d_Item_init_45 ?_
        exact ⟨rfl, i1, i2, i3, q7, ms, hMf, i4, i5, ⟨i6, i7⟩, i8, i9⟩
      · skip
        rw [show (8 : Int32) = nI 8 from rfl, nI_leI (by omega) (by omega)] at c23
        have ha2 := i1 a _ ha
        refine j_aload_n C d_Item_init_26 rfl ?_
        refine j_gets (b := q7) C d_Item_init_27 fl_Item_11 cl_Item rfl (by assumption) rfl (by rw [i5, va_up_self]) (fun t27 => ?_)
        refine j_iload_n C d_Item_init_30 rfl ?_
        refine j_new C d_Item_init_31 cl_Member rfl cn_Item_9 in_Member ni_Member df_Member (by omega) (by omega) (fun q31 hq31 => ?_)
        have hMq : q7 ≠ q31 := fresh_ne i4 hq31
        have haq : a ≠ q31 := fresh_ne ha2 hq31
        have hfr : tt q31 = none := by
          cases e : tt q31 with
          | none => rfl
          | some z => exact absurd (i1 _ _ e) (by rw [hq31]; simp)
        refine j_dup C d_Item_init_34 (by first | rfl | exact cat_rf _) ?_
        refine j_callINv C [] d_Item_init_35 ml_Item_19 mb_Member_init mi_Member_init rfl k_Member_init (c_Member_init _ _ _) (by decide) (by decide) rfl (by omega) (by omega) rfl (by simp [cat_rf, cat_int]) ?_
        refine j_aast C k d_Item_init_38 (by rw [va_up_ne _ _ hMq]; exact i4) (by decide) rfl (by omega) (by decide) (va_up_self _ _ _) (fun mr38 hr38 => ?_)
        refine j_iinc C d_Item_init_39 rfl (nI_1 k) ?_
        refine j_goto (tgt := 20) C d_Item_init_42 (by decide) ?_
        refine j_widen (ce' := 1 + (k + 1)) (sl' := 8 + 5 * (k + 1)) (by omega) (by omega) ?_
        have hqm : q31 ∉ ms := fun z => fresh_ne (i9 _ z).2.1 hq31 rfl
        refine ih (k + 1) _ _ _ (ms ++ [q31]) (by omega) (by omega) ⟨i1.trans (Ext.new hq31), ?_, ?_, ?_, ?_, ?_, ?_, ?_, ?_⟩
        · intro b q hb hs
          have hbq := fresh_ne hb hfr
          have hbM := fresh_ne hb hMf
          rw [hr38, va_up_ne _ _ hbq, up2_off _ _ _ _ hbM, va_up_ne _ _ hbq]
          exact i2 b q hb hs
        · rw [va_up_ne _ _ haq]; exact i3
        · rw [va_up_ne _ _ hMq]; exact i4
        · rw [hr38, up2_off _ _ _ _ haM, va_up_ne _ _ haq]; exact i5
        · rw [List.length_append, i6]; rfl
        · intro j hj
          rw [hr38, up2_ap, va_up_ne _ _ hMq]
          by_cases e : j = k
          · rw [if_pos ⟨rfl, e⟩, e, ← i6]; simp
          · rw [if_neg (fun z => e z.2), i7 j (by omega), List.getElem?_append_left (by omega)]
        · rw [List.nodup_append]
          exact ⟨i8, by simp, fun x hx y hy e => hqm (by simp at hy; rw [← hy, ← e]; exact hx)⟩
        · intro m hm
          rcases List.mem_append.mp hm with z | z
          · obtain ⟨w1, w2, w3, w4⟩ := i9 m z
            have hmq : m ≠ q31 := fun e => hqm (e ▸ z)
            have hmM : m ≠ q7 := fun e => by rw [e, i4] at w2; cases w2
            rw [va_up_ne _ _ hmq, va_up_ne _ _ hmq, hr38, up2_off _ _ _ _ hmM, va_up_ne _ _ hmq]
            exact ⟨w1, w2, w3, w4⟩
          · simp at z
            subst z
            rw [va_up_self, va_up_self, hr38, up2_off _ _ _ _ (Ne.symm hMq), va_up_self]
            exact ⟨hfr, rfl, rfl, rfl⟩
  refine loop 9 0 _ _ _ [] (by omega) (by omega) ⟨Ext.new hq7, ?_, ?_, va_up_self _ _ _, ?_, rfl, fun j hj => absurd hj (by omega), List.nodup_nil, fun m hm => by simp at hm⟩
  · rw [hm15, hr10]
    exact Old.trans (Ext.new (k := .inr (1, 8)) hq7) (Old.new hq7) (fun b q hb hs => ⟨up2_off _ _ _ _ hs, up2_off _ _ _ _ hs⟩)
  · rw [hm15, up2_row, va_up_ne _ _ haq7]
  · rw [hr10, up2_row, va_up_ne _ _ haq7]
end
section
/-! CONSTRUCTORS, 2: Lines, Orders, OrderDesk, OrderDeskModel -/
def linesP (tt : jT) (mi : jI) (mr : jR) (a : Nat) : jPost := fun v tt' mi' mr' => v = none ∧ Ext tt tt' ∧ Old (fun b => b = a) tt mi mr mi' mr' ∧ mi' a = mi a ∧ ∃ (ch : Nat) (F : List Nat), tt ch = none ∧ tt' ch = some (.inr (2, 256)) ∧ mr' a 0 = some ch ∧ mr' ch = (fun _ => none) ∧ F.length = 1600 ∧ F.Nodup ∧ sl mr' 4 (mr' a 1) F ∧ ∀ q ∈ F, tt q = none ∧ tt' q = some (.inl 2) ∧ mi' q = (fun _ => 0) ∧ mr' q 2 = none ∧ mr' q 3 = none

set_option maxHeartbeats 4000000 in
set_option maxRecDepth 100000 in
theorem c_Lines_init (l : Launch) (D : jD) (N0 : Nat) {tt : jT} {mi : jI} {mr : jR} {a : Nat} (ha : tt a = some (.inl 3)) (hfree : mr a 1 = none) {x : Int32} (hx : x = nI 1600) : Ct l D N0 2 1601 8256 y_Lines_init b_Lines_init 3 none [va_rf (some a), .int x] tt mi mr (linesP tt mi mr a) := by
  refine Ct.of "OrderDesk$Lines" (by decide +kernel) rfl (by simp [cat_rf, cat_int]) (Nat.le_of_ble_eq_true rfl) (fun X hXl hXd hXn C E I hWT => ?_)
  subst hXl hXd hXn
  replace I := I rfl
  refine j_aload_n C d_Lines_init_0 rfl ?_
  refine j_obj C d_Lines_init_1 ml_Lines_1 (by decide) rfl (by simp [cat_rf, cat_int]) ?_
  refine j_aload_n C d_Lines_init_4 rfl ?_
  refine j_sipush (v := 256) C d_Lines_init_5 (by decide) ?_
  refine j_anew C (t := 2) 256 d_Lines_init_8 (by decide) cn_Lines_9 rfl (by decide) (Nat.le_of_ble_eq_true rfl) (Nat.le_of_ble_eq_true rfl) (fun q8 hq8 => ?_)
  have ha8 : a ≠ q8 := fresh_ne ha hq8
  refine j_putr C d_Lines_init_11 fl_Lines_11 cl_Lines (fun C T N h => by cases h; exact Or.inr ⟨rfl, I, rfl⟩) rfl (by rw [va_up_ne _ _ ha8]; exact ha) (by intro b hb; cases hb; exact va_up_self _ _ _) (fun f g => ⟨rfl, Nat.le_of_ble_eq_true rfl⟩) rfl (fun mr11 hr11 => ?_)
  refine j_iconst (v := 0) C d_Lines_init_14 (by decide) ?_
  refine j_istore_n C d_Lines_init_15 (Nat.le_of_ble_eq_true rfl) ?_
  have loop : ∀ (n k : Nat) (tt2 : jT) (mi2 : jI) (mr2 : jR) (F : List Nat), k ≤ 1600 → 1600 < k + n → (Ext tt tt2 ∧ Old (fun b => b = a) tt mi mr mi2 mr2 ∧ mi2 a = mi a ∧ tt2 q8 = some (.inr (2, 256)) ∧ mr2 a 0 = some q8 ∧ mr2 q8 = (fun _ => none) ∧ F.length = k ∧ F.Nodup ∧ sl mr2 4 (mr2 a 1) F ∧ ∀ q ∈ F, tt q = none ∧ tt2 q = some (.inl 2) ∧ mi2 q = (fun _ => 0) ∧ mr2 q 2 = none ∧ mr2 q 3 = none) → J X tt2 mi2 mr2 (1 + k) (256 + 5 * k) 16 [some (va_rf (some a)), some (.int x), some (.int (nI k))] [] := by
    intro n
    induction n with
    | zero => intro k tt2 mi2 mr2 F h1 h2; exact absurd h2 (by omega)
    | succ n ih =>
      intro k tt2 mi2 mr2 F hk hn hinv
      obtain ⟨i1, i2, i3, i4, i5, i6, i7, i8, i9, i10⟩ := hinv
      refine j_iload_n C d_Lines_init_16 rfl ?_
      refine j_iload_n C d_Lines_init_17 rfl ?_
      refine j_icmp_ge (tgt := 38) C d_Lines_init_18 (by decide) (fun c18 => ?_) (fun c18 => ?_)
      · skip
        rw [hx, nI_leI (by omega) (by omega)] at c18
        have ek : k = 1600 := by omega
        subst ek
        refine j_vret C E d_Lines_init_38 ?_
        exact ⟨rfl, i1, i2, i3, q8, F, hq8, i4, i5, i6, i7, i8, i9, i10⟩
      · skip
        rw [hx, nI_leI (by omega) (by omega)] at c18
        have ha2 := i1 a _ ha
        refine j_aload_n C d_Lines_init_21 rfl ?_
        refine j_new C d_Lines_init_22 cl_Line rfl cn_Lines_9 in_Line ni_Line df_Line (by omega) (by omega) (fun q22 hq22 => ?_)
        have haq : a ≠ q22 := fresh_ne ha2 hq22
        have h8q : q8 ≠ q22 := fresh_ne i4 hq22
        have hfr : tt q22 = none := by
          cases e : tt q22 with
          | none => rfl
          | some z => exact absurd (i1 _ _ e) (by rw [hq22]; simp)
        refine j_dup C d_Lines_init_25 (by first | rfl | exact cat_rf _) ?_
        refine j_callINv C [] d_Lines_init_26 ml_Lines_15 mb_Line_init mi_Line_init rfl k_Line_init (c_Line_init _ _ _) (by decide) (by decide) rfl (by omega) (by omega) rfl (by simp [cat_rf, cat_int]) ?_
        refine j_callVv C [va_rf (some q22)] d_Lines_init_29 ml_Lines_16 mv_Lines_give k_Lines_give ⟨_, _, rfl⟩ (by rw [va_up_ne _ _ haq]; exact ha2) (c_Lines_give _ _ _ (by rw [va_up_ne _ _ haq]; exact ha2) (va_up_self _ _ _)) (by decide) (by decide) rfl (by omega) (by omega) rfl (by simp [cat_rf, cat_int]) ?_
        refine j_iinc C d_Lines_init_32 rfl (nI_1 k) ?_
        refine j_goto (tgt := 16) C d_Lines_init_35 (by decide) ?_
        refine j_widen (ce' := 1 + (k + 1)) (sl' := 256 + 5 * (k + 1)) (by omega) (by omega) ?_
        have hqF : q22 ∉ F := fun z => fresh_ne (i10 _ z).2.1 hq22 rfl
        have haF : a ∉ F := fun z => by have := (i10 _ z).2.1; rw [ha2] at this; cases this
        have R1 : ∀ b, b ≠ a → b ≠ q22 → up2 (up2 (va_up mr2 q22 fun _ => none) q22 4 (va_up mr2 q22 (fun _ => none) a 1)) a 1 (some q22) b = mr2 b := fun b h1 h2 => by rw [up2_off _ _ _ _ h1, up2_off _ _ _ _ h2, va_up_ne _ _ h2]
        refine ih (k + 1) _ _ _ (q22 :: F) (by omega) (by omega) ⟨i1.trans (Ext.new hq22), ?_, ?_, ?_, ?_, ?_, ?_, ?_, ?_, ?_⟩
        · intro b q hb hs
          have hbq := fresh_ne hb hfr
          rw [va_up_ne _ _ hbq, R1 b hs hbq]
          exact i2 b q hb hs
        · rw [va_up_ne _ _ haq]; exact i3
        · rw [va_up_ne _ _ h8q]; exact i4
        · rw [up2_ap, if_neg (by simp), up2_off _ _ _ _ haq, va_up_ne _ _ haq]; exact i5
        · rw [R1 q8 (Ne.symm ha8) h8q]; exact i6
        · rw [List.length_cons, i7]
        · exact List.nodup_cons.mpr ⟨hqF, i8⟩
        · refine ⟨by rw [up2_ap, if_pos ⟨rfl, rfl⟩], ?_⟩
          have e4 : up2 (up2 (va_up mr2 q22 fun _ => none) q22 4 (va_up mr2 q22 (fun _ => none) a 1)) a 1 (some q22) q22 4 = mr2 a 1 := by rw [up2_off _ _ _ _ (Ne.symm haq), up2_ap, if_pos ⟨rfl, rfl⟩, va_up_ne _ _ haq]
          rw [e4]
          exact i9.congr rfl (fun y hy => by rw [R1 y (fun e => haF (e ▸ hy)) (fun e => hqF (e ▸ hy))])
        · intro q hq
          rcases List.mem_cons.mp hq with z | z
          · subst z
            refine ⟨hfr, va_up_self _ _ _, va_up_self _ _ _, ?_, ?_⟩
            · rw [up2_off _ _ _ _ (Ne.symm haq), up2_ap, if_neg (by simp), va_up_self]
            · rw [up2_off _ _ _ _ (Ne.symm haq), up2_ap, if_neg (by simp), va_up_self]
          · obtain ⟨w1, w2, w3, w4, w5⟩ := i10 q z
            have hqq : q ≠ q22 := fun e => hqF (e ▸ z)
            rw [va_up_ne _ _ hqq, va_up_ne _ _ hqq, R1 q (fun e => haF (e ▸ z)) hqq]
            exact ⟨w1, w2, w3, w4, w5⟩
  refine loop 1601 0 _ _ _ [] (by omega) (by omega) ⟨Ext.new hq8, ?_, va_up_ne _ _ ha8, va_up_self _ _ _, ?_, ?_, rfl, List.nodup_nil, ?_, fun m hm => by simp at hm⟩
  · rw [hr11]
    exact Old.trans (Ext.new (k := .inr (2, 256)) hq8) (Old.new hq8) (fun b q hb hs => ⟨rfl, up2_off _ _ _ _ hs⟩)
  · rw [hr11, up2_ap, if_pos ⟨rfl, rfl⟩]
  · rw [hr11, up2_off _ _ _ _ (Ne.symm ha8), va_up_self]
  · show mr11 a 1 = none
    rw [hr11, up2_ap, if_neg (by simp), va_up_ne _ _ ha8]; exact hfree

/-- a new item, number i -/
def NI (tt : jT) (mi : jI) (mr : jR) (a M : Nat) (ms : List Nat) (i : Nat) : Prop := tt a = some (.inl 0) ∧ mi a = va_up (fun _ => 0) 0 (nI i) ∧ mr a = va_up (fun _ => none) 1 (some M) ∧ tt M = some (.inr (1, 8)) ∧ rowM mr M ms ∧ ms.Nodup ∧ ∀ m ∈ ms, tt m = some (.inl 1) ∧ mi m = (fun _ => 0) ∧ mr m = va_up (fun _ => none) 0 (some a)
theorem NI.keep {tt tt' : jT} {mi mi' : jI} {mr mr' : jR} {a M : Nat} {ms : List Nat} {i : Nat} (h : NI tt mi mr a M ms i) (he : Ext tt tt') (ho : ∀ b q, tt b = some q → (q = .inl 0 ∨ q = .inl 1 ∨ q = .inr (1, 8)) → mi' b = mi b ∧ mr' b = mr b) : NI tt' mi' mr' a M ms i := by
  obtain ⟨h1, h2, h3, h4, h5, h6, h7⟩ := h
  have oa := ho a _ h1 (Or.inl rfl)
  have oM := ho M _ h4 (Or.inr (Or.inr rfl))
  refine ⟨he _ _ h1, oa.1.trans h2, oa.2.trans h3, he _ _ h4, ⟨h5.1, fun k hk => by rw [oM.2]; exact h5.2 k hk⟩, h6, fun m hm => ?_⟩
  obtain ⟨w1, w2, w3⟩ := h7 m hm
  have om := ho m _ w1 (Or.inr (Or.inl rfl))
  exact ⟨he _ _ w1, om.1.trans w2, om.2.trans w3⟩
def ordersP (tt : jT) (mi : jI) (mr : jR) (a : Nat) : jPost := fun v tt' mi' mr' => v = none ∧ Ext tt tt' ∧ Old (fun b => b = a) tt mi mr mi' mr' ∧ mi' a = mi a ∧ ∃ (ia ls ch : Nat) (F : List Nat) (it ma : Nat → Nat) (ms : Nat → List Nat), mr' a = va_up (va_up (mr a) 0 (some ia)) 1 (some ls) ∧ tt' ia = some (.inr (0, 200)) ∧ (∀ i, i < 200 → mr' ia i = some (it i) ∧ NI tt' mi' mr' (it i) (ma i) (ms i) i) ∧ tt' ls = some (.inl 3) ∧ mi' ls = (fun _ => 0) ∧ mr' ls 0 = some ch ∧ tt' ch = some (.inr (2, 256)) ∧ mr' ch = (fun _ => none) ∧ F.length = 1600 ∧ F.Nodup ∧ sl mr' 4 (mr' ls 1) F ∧ ∀ q ∈ F, tt' q = some (.inl 2) ∧ mi' q = (fun _ => 0) ∧ mr' q 2 = none ∧ mr' q 3 = none

set_option maxHeartbeats 4000000 in
set_option maxRecDepth 100000 in
theorem c_Orders_init (l : Launch) (D : jD) (N0 : Nat) {tt : jT} {mi : jI} {mr : jR} {a : Nat} (ha : tt a = some (.inl 4)) {x : Int32} (hx : x = nI 200) : Ct l D N0 3 3603 19659 y_Orders_init b_Orders_init 3 none [va_rf (some a), .int x] tt mi mr (ordersP tt mi mr a) := by
  refine Ct.of "OrderDesk$Orders" (by decide +kernel) rfl (by simp [cat_rf, cat_int]) (Nat.le_of_ble_eq_true rfl) (fun X hXl hXd hXn C E I hWT => ?_)
  subst hXl hXd hXn
  replace I := I rfl
  refine j_aload_n C d_Orders_init_0 rfl ?_
  refine j_obj C d_Orders_init_1 ml_Orders_1 (by decide) rfl (by simp [cat_rf, cat_int]) ?_
  refine j_aload_n C d_Orders_init_4 rfl ?_
  refine j_iload_n C d_Orders_init_5 rfl ?_
  refine j_anew C (t := 0) 200 d_Orders_init_6 (by decide) cn_Orders_7 hx (by decide) (Nat.le_of_ble_eq_true rfl) (Nat.le_of_ble_eq_true rfl) (fun q6 hq6 => ?_)
  have ha6 : a ≠ q6 := fresh_ne ha hq6
  refine j_putr C d_Orders_init_9 fl_Orders_9 cl_Orders (fun C T N h => by cases h; exact Or.inr ⟨rfl, I, rfl⟩) rfl (by rw [va_up_ne _ _ ha6]; exact ha) (by intro b hb; cases hb; exact va_up_self _ _ _) (fun f g => ⟨rfl, Nat.le_of_ble_eq_true rfl⟩) rfl (fun mr9 hr9 => ?_)
  refine j_iconst (v := 0) C d_Orders_init_12 (by decide) ?_
  refine j_istore_n C d_Orders_init_13 (Nat.le_of_ble_eq_true rfl) ?_
  have loop : ∀ (n k : Nat) (tt2 : jT) (mi2 : jI) (mr2 : jR) (it ma : Nat → Nat) (ms : Nat → List Nat), k ≤ 200 → 200 < k + n → (Ext tt tt2 ∧ Old (fun b => b = a) tt mi mr mi2 mr2 ∧ mi2 a = mi a ∧ mr2 a = va_up (mr a) 0 (some q6) ∧ tt2 q6 = some (.inr (0, 200)) ∧ ∀ i, i < k → mr2 q6 i = some (it i) ∧ NI tt2 mi2 mr2 (it i) (ma i) (ms i) i) → J X tt2 mi2 mr2 (1 + 10 * k) (200 + 56 * k) 14 [some (va_rf (some a)), some (.int x), some (.int (nI k))] [] := by
    intro n
    induction n with
    | zero => intro k tt2 mi2 mr2 it ma ms h1 h2; exact absurd h2 (by omega)
    | succ n ih =>
      intro k tt2 mi2 mr2 it ma ms hk hn hinv
      obtain ⟨i1, i2, i3, i4, i5, i6⟩ := hinv
      refine j_iload_n C d_Orders_init_14 rfl ?_
      refine j_iload_n C d_Orders_init_15 rfl ?_
      refine j_icmp_ge (tgt := 48) C d_Orders_init_16 (by decide) (fun c16 => ?_) (fun c16 => ?_)
      · skip
        rw [hx, nI_leI (by omega) (by omega)] at c16
        have ek : k = 200 := by omega
        subst ek
        refine j_aload_n C d_Orders_init_48 rfl ?_
        refine j_new C d_Orders_init_49 cl_Lines rfl cn_Orders_21 in_Lines ni_Lines df_Lines (by omega) (by omega) (fun q49 hq49 => ?_)
        have haq : a ≠ q49 := fresh_ne (i1 _ _ ha) hq49
        have h6q : q6 ≠ q49 := fresh_ne i5 hq49
        have hfr : tt q49 = none := by
          cases e : tt q49 with
          | none => rfl
          | some z => exact absurd (i1 _ _ e) (by rw [hq49]; simp)
        refine j_dup C d_Orders_init_52 (by first | rfl | exact cat_rf _) ?_
        refine j_iload_n C d_Orders_init_53 rfl ?_
        refine j_bipush (v := 8) C d_Orders_init_54 (by decide) ?_
        refine j_imul C d_Orders_init_56 ?_
        refine j_callI C [.int (x * 8)] d_Orders_init_57 ml_Orders_23 mi_Lines_init rfl k_Lines_init (c_Lines_init _ _ _ (va_up_self _ _ _) (by rw [va_up_self]) (by rw [hx]; rfl)) (by decide) (by decide) rfl (by omega) (by omega) rfl (by simp [cat_rf, cat_int]) (fun v57 tt57 mi57 mr57 p57 => ?_)
        obtain ⟨rfl, e1, e2, e3, ch, F, e4, e5, e6, e7, e8, e9, e10, e11⟩ := p57
        have ha57 : tt57 a = some (.inl 4) := e1 _ _ (Ext.new hq49 _ _ (i1 _ _ ha))
        have hq57 : tt57 q49 = some (.inl 3) := e1 _ _ (va_up_self _ _ _)
        refine j_putr C d_Orders_init_60 fl_Orders_24 cl_Orders (fun C T N h => by cases h; exact Or.inr ⟨rfl, I, rfl⟩) rfl ha57 (by intro b hb; cases hb; exact hq57) (fun f g => ⟨rfl, Nat.le_of_ble_eq_true rfl⟩) rfl (fun mr60 hr60 => ?_)
        refine j_widen (ce' := 3603) (sl' := 19659) (by omega) (by omega) ?_
        refine j_vret C E d_Orders_init_63 ?_
        have o57 : ∀ b q, tt2 b = some q → mi57 b = mi2 b ∧ mr57 b = mr2 b := fun b q hb => by
          have hbq := fresh_ne hb hq49
          have := e2 b q (Ext.new hq49 _ _ hb) hbq
          rw [va_up_ne _ _ hbq, va_up_ne _ _ hbq] at this
          exact this
        have ne4 : ∀ b q, tt57 b = some q → q ≠ .inl 4 → b ≠ a := fun b q hb hq => kne hb ha57 hq
        have R60 : ∀ b q, tt57 b = some q → q ≠ .inl 4 → mr60 b = mr57 b := fun b q hb hq => by rw [hr60, up2_off _ _ _ _ (ne4 b q hb hq)]
        refine ⟨rfl, i1.trans ((Ext.new hq49).trans e1), fun b q hb hs => ?_, ?_, q6, q49, ch, F, it, ma, ms, ?_, e1 _ _ (Ext.new hq49 _ _ i5), fun i hi => ⟨?_, ?_⟩, hq57, ?_, ?_, e5, ?_, e8, e9, ?_, fun q hq => ?_⟩
        · have h1 := i2 b q hb hs
          have h2 := o57 b q (i1 _ _ hb)
          rw [hr60, up2_off _ _ _ _ hs]
          exact ⟨h2.1.trans h1.1, h2.2.trans h1.2⟩
        · rw [(o57 a _ (i1 _ _ ha)).1]; exact i3
        · rw [hr60, up2_row, (o57 a _ (i1 _ _ ha)).2, i4]
        · rw [R60 q6 _ (e1 _ _ (Ext.new hq49 _ _ i5)) (by simp), (o57 q6 _ i5).2]; exact (i6 i hi).1
        · refine (i6 i hi).2.keep ((Ext.new hq49).trans e1) (fun b q hb hq => ?_)
          rw [R60 b q (e1 _ _ (Ext.new hq49 _ _ hb)) (by rcases hq with z | z | z <;> rw [z] <;> simp)]
          exact o57 b q hb
        · rw [e3, va_up_self]
        · rw [R60 q49 _ hq57 (by simp)]; exact e6
        · rw [R60 ch _ e5 (by simp)]; exact e7
        · refine e10.congr (by rw [R60 q49 _ hq57 (by simp)]) (fun y hy => by rw [R60 y _ (e11 y hy).2.1 (by simp)])
        · obtain ⟨w1, w2, w3, w4, w5⟩ := e11 q hq
          rw [R60 q _ w2 (by simp)]
          exact ⟨w2, w3, w4, w5⟩
      · skip
        rw [hx, nI_leI (by omega) (by omega)] at c16
        have ha2 := i1 a _ ha
        refine j_aload_n C d_Orders_init_19 rfl ?_
        refine j_gets (b := q6) C d_Orders_init_20 fl_Orders_9 cl_Orders rfl (by assumption) rfl (by rw [i4, va_up_self]) (fun t20 => ?_)
        refine j_iload_n C d_Orders_init_23 rfl ?_
        refine j_new C d_Orders_init_24 cl_Item rfl cn_Orders_7 in_Item ni_Item df_Item (by omega) (by omega) (fun q24 hq24 => ?_)
        have haq : a ≠ q24 := fresh_ne ha2 hq24
        have h6q : q6 ≠ q24 := fresh_ne i5 hq24
        refine j_dup C d_Orders_init_27 (by first | rfl | exact cat_rf _) ?_
        refine j_iload_n C d_Orders_init_28 rfl ?_
        refine j_callI C [.int (nI k)] d_Orders_init_29 ml_Orders_15 mi_Item_init rfl k_Item_init (c_Item_init _ _ _ (va_up_self _ _ _) (nI k)) (by decide) (by decide) rfl (by omega) (by omega) rfl (by simp [cat_rf, cat_int]) (fun v29 tt29 mi29 mr29 p29 => ?_)
        obtain ⟨rfl, e1, e2, e3, M0, ms0, f1, f2, f3, f4, f5, f6⟩ := p29
        change J X tt29 mi29 mr29 (1 + 10 * k + 1 + 9) (200 + 56 * k + 8 + 48) 32 _ (va_rf (some q24) :: .int (nI k) :: va_rf (some q6) :: [])
        have ha29 : tt29 a = some (.inl 4) := e1 _ _ (Ext.new hq24 _ _ ha2)
        have hq29 : tt29 q24 = some (.inl 0) := e1 _ _ (va_up_self _ _ _)
        have h629 : tt29 q6 = some (.inr (0, 200)) := e1 _ _ (Ext.new hq24 _ _ i5)
        have ha6 : a ≠ q6 := kne ha29 h629 (by simp)
        have hM6 : M0 ≠ q6 := kne f2 h629 (by simp)
        have o29 : ∀ b q, tt2 b = some q → mi29 b = mi2 b ∧ mr29 b = mr2 b := fun b q hb => by
          have hbq := fresh_ne hb hq24
          have := e2 b q (Ext.new hq24 _ _ hb) hbq
          rw [va_up_ne _ _ hbq, va_up_ne _ _ hbq] at this
          exact this
        refine j_aast C k d_Orders_init_32 h629 (by decide) rfl (by omega) (by decide) hq29 (fun mr32 hr32 => ?_)
        refine j_aload_n C d_Orders_init_33 rfl ?_
        refine j_gets (b := q6) C d_Orders_init_34 fl_Orders_9 cl_Orders rfl ha29 rfl (by rw [hr32, up2_off _ _ _ _ ha6, (o29 a _ ha2).2, i4, va_up_self]) (fun t34 => ?_)
        refine j_iload_n C d_Orders_init_37 rfl ?_
        refine j_aalds (b := q24) C k d_Orders_init_38 h629 (by decide) rfl (by omega) (by decide) (by rw [hr32, up2_ap, if_pos ⟨rfl, rfl⟩]) (fun t38 => ?_)
        refine j_callV C [] d_Orders_init_39 ml_Orders_18 mv_Item_begin k_Item_begin ⟨_, _, rfl⟩ hq29 (c_Item_begin _ _ _ hq29 (M := M0) (by rw [hr32, up2_off _ _ _ _ (Ne.symm h6q), f3, va_up_self]) ⟨f4.1, fun j hj => by rw [hr32, up2_off _ _ _ _ hM6]; exact f4.2 j hj⟩ f5 (fun m hm => (f6 m hm).2.1)) (by decide) (by decide) rfl (by omega) (by omega) rfl (by simp [cat_rf, cat_int]) (fun v39 tt39 mi39 mr39 p39 => ?_)
        obtain ⟨rfl, rfl, rfl, g1, g2⟩ := p39
        refine j_widen (ce' := 1 + 10 * (k + 1)) (sl' := 200 + 56 * (k + 1)) (by omega) (by omega) ?_
        refine j_iinc C d_Orders_init_42 rfl (nI_1 k) ?_
        refine j_goto (tgt := 14) C d_Orders_init_45 (by decide) ?_
        have hms : ∀ m ∈ ms0, m ≠ q6 ∧ m ≠ q24 ∧ m ≠ M0 ∧ m ≠ a := fun m hm => ⟨kne (f6 m hm).2.1 h629 (by simp), kne (f6 m hm).2.1 hq29 (by simp), kne (f6 m hm).2.1 f2 (by simp), kne (f6 m hm).2.1 ha29 (by simp)⟩
        have hnm : ∀ b, tt2 b ≠ none → b ∉ ms0 := fun b hb hm => by
          have h1 := (f6 b hm).1
          by_cases z : b = q24
          · exact (hms b hm).2.1 z
          · rw [va_up_ne _ _ z] at h1
            exact hb h1
        have R39 : ∀ b q, tt2 b = some q → b ≠ q6 → mr39 b = mr2 b := fun b q hb h6 => by rw [g1 b q (e1 _ _ (Ext.new hq24 _ _ hb)) (hnm b (by rw [hb]; simp)), hr32, up2_off _ _ _ _ h6, (o29 b q hb).2]
        have g6 : mr39 q6 = up2 mr29 q6 k (some q24) q6 := by rw [g1 q6 _ h629 (hnm q6 (by rw [i5]; simp)), hr32]
        refine ih (k + 1) _ _ _ (va_up it k q24) (va_up ma k M0) (va_up ms k ms0) (by omega) (by omega) ⟨i1.trans ((Ext.new hq24).trans e1), fun b q hb hs => ?_, ?_, ?_, h629, fun i hi => ?_⟩
        · have hb2 := i1 _ _ hb
          have h6 : b ≠ q6 := fresh_ne hb hq6
          rw [R39 b q hb2 h6]
          have h1 := i2 b q hb hs
          exact ⟨(o29 b q hb2).1.trans h1.1, h1.2⟩
        · rw [(o29 a _ ha2).1]; exact i3
        · rw [R39 a _ ha2 ha6]; exact i4
        · by_cases z : i = k
          · subst z
            rw [va_up_self, va_up_self, va_up_self]
            refine ⟨by rw [g6, up2_ap, if_pos ⟨rfl, rfl⟩], hq29, ?_, ?_, f2, ⟨f4.1, fun j hj => ?_⟩, f5, fun m hm => ⟨(f6 m hm).2.1, (f6 m hm).2.2.1, ?_⟩⟩
            · rw [e3, va_up_self]
            · rw [g1 q24 _ hq29 (fun w => (hms _ w).2.1 rfl), hr32, up2_off _ _ _ _ (Ne.symm h6q), f3, va_up_self]
            · rw [g1 M0 _ f2 (fun w => (hms _ w).2.2.1 rfl), hr32, up2_off _ _ _ _ hM6]; exact f4.2 j hj
            · rw [g2 m hm, hr32, up2_off _ _ _ _ (hms m hm).1, (f6 m hm).2.2.2]
          · obtain ⟨w1, w2⟩ := i6 i (by omega)
            rw [va_up_ne _ _ z, va_up_ne _ _ z, va_up_ne _ _ z]
            refine ⟨?_, w2.keep ((Ext.new hq24).trans e1) (fun b q hb hq => ?_)⟩
            · rw [g6, up2_ap, if_neg (fun v => z v.2), (o29 q6 _ i5).2]; exact w1
            · have h6 : b ≠ q6 := kne hb i5 (by rcases hq with v | v | v <;> rw [v] <;> simp)
              exact ⟨(o29 b q hb).1, R39 b q hb h6⟩
  refine loop 201 0 _ _ _ (fun _ => 0) (fun _ => 0) (fun _ => []) (by omega) (by omega) ⟨Ext.new hq6, ?_, va_up_ne _ _ ha6, ?_, va_up_self _ _ _, fun i hi => absurd hi (by omega)⟩
  · rw [hr9]
    exact Old.trans (Ext.new (k := .inr (0, 200)) hq6) (Old.new hq6) (fun b q hb hs => ⟨rfl, up2_off _ _ _ _ hs⟩)
  · rw [hr9, up2_row, va_up_ne _ _ ha6]
end
section
/-! CONSTRUCTORS, 3: OrderDesk, OrderDeskModel -/
def M0 : Mt := (fun _ => false, fun _ => 0, fun _ => 0, fun _ => [], 0)
theorem MI_0 : MI M0 := ⟨fun i hi => ⟨List.nodup_nil, Nat.zero_le _, fun p hp => by simp [tkM, M0] at hp⟩, fun i hi hq => by simp [qdM, M0] at hq, fun i j hi hj hq => by simp [qdM, M0] at hq⟩
theorem Us_nil : Us (fun _ => []) = [] := by
  rw [List.eq_nil_iff_forall_not_mem]
  intro q hq
  obtain ⟨c, -, h⟩ := mem_Us.mp hq
  simp at h
theorem dk_init {tt : jT} {mi : jI} {mr : jR} {dk od ia ls ch : Nat} {F : List Nat} {it ma : Nat → Nat} {ms : Nat → List Nat} (tdk : tt dk = some (.inl 5)) (hdk : mr dk 0 = some od) (tod : tt od = some (.inl 4)) (hmi : mi od = fun _ => 0) (hmr : mr od = va_up (va_up (fun _ => none) 0 (some ia)) 1 (some ls)) (tia : tt ia = some (.inr (0, 200))) (hit : ∀ i, i < 200 → mr ia i = some (it i) ∧ NI tt mi mr (it i) (ma i) (ms i) i) (tls : tt ls = some (.inl 3)) (mils : mi ls = fun _ => 0) (hch : mr ls 0 = some ch) (tch : tt ch = some (.inr (2, 256))) (mrch : mr ch = fun _ => none) (hF : F.length = 1600) (hFn : F.Nodup) (hFs : sl mr 4 (mr ls 1) F) (hFq : ∀ q ∈ F, tt q = some (.inl 2) ∧ mi q = (fun _ => 0) ∧ mr q 2 = none ∧ mr q 3 = none) :
    Dk tt mi mr dk od ia ls ch it ma (fun m => (mr m 0).getD 0) M0 := by
  have npl : ∀ m, ¬ plM M0 ms m := fun m ⟨i, _, hq, _⟩ => by simp [qdM, M0] at hq
  refine ⟨ms, [], fun _ => [], F, fun _ => [], ⟨⟨tdk, hdk, tod, ?_, ?_, tia⟩, fun i hi => ?_⟩, ⟨?_, fun i hi => ?_⟩, ⟨⟨?_, ?_, DL_nil⟩, ?_, List.Pairwise.nil, fun a => ?_⟩, ⟨tls, hch, tch⟩, fun c hc => ?_, hFs, ?_, ?_, ?_, fun q hq => ?_, fun q hq => rfl, fun c hc q hq => ?_, fun q hq => ?_, fun q hq => ?_, fun q hq => ?_, fun m hm => absurd hm (npl m)⟩
  · rw [hmr]; simp [va_up]
  · rw [hmr]; simp [va_up]
  · obtain ⟨h0, h1, h2, h3, h4, h5, h6, h7⟩ := hit i hi
    refine ⟨h0, h1, ?_, ?_, h4, h5, h6, fun m hm => ?_⟩
    · rw [h2]; simp [va_up]
    · rw [h3]; simp [va_up]
    · obtain ⟨w1, w2, w3⟩ := h7 m hm
      refine ⟨w1, by rw [w3]; simp [va_up], ?_⟩
      show (mr m 0).getD 0 = it i
      rw [w3]; simp [va_up]
  · rw [hmi]; rfl
  · obtain ⟨h0, h1, h2, h3, h4, h5, h6, h7⟩ := hit i hi
    rw [h2]
    refine ⟨by simp [va_up, M0, qdM, bI], by simp [va_up, M0, prM], by simp [va_up, M0, arM], ?_, by simp [M0, tkM]⟩
    simp [va_up, M0, tkM]
    rfl
  · rw [hmr]; simp [va_up]
  · rw [hmr]; simp [va_up]
  · rw [hmi]; rfl
  · constructor
    · intro h; simp at h
    · rintro ⟨i, -, -, hq⟩; simp [qdM, M0] at hq
  · rw [mrch]; rfl
  · rw [Us_nil, List.append_nil]; exact hFn
  · rw [Us_nil, List.append_nil]; exact hF
  · rw [Us_nil, mils]; rfl
  · rw [Us_nil, List.append_nil] at hq
    obtain ⟨w1, w2, w3, w4⟩ := hFq q hq
    exact ⟨w1, ⟨w3, w4, DL_nil⟩, by rw [w2]; rfl⟩
  · simp at hq
  · rw [Us_nil] at hq; simp at hq
  · rw [Us_nil] at hq; simp at hq
  · rw [Us_nil] at hq; simp at hq

set_option maxHeartbeats 4000000 in
set_option maxRecDepth 100000 in
/-- OrderDesk() -/
theorem c_Desk_init (l : Launch) (D : jD) (N0 : Nat) {tt : jT} {mi : jI} {mr : jR} {a : Nat} (ha : tt a = some (.inl 5)) : Ct l D N0 4 3604 19665 y_Desk_init b_Desk_init 1 none [va_rf (some a)] tt mi mr (fun v tt' mi' mr' => v = none ∧ Ext tt tt' ∧ Old (fun b => b = a) tt mi mr mi' mr' ∧ ∃ (od ia ls ch : Nat) (it ma io : Nat → Nat), Dk tt' mi' mr' a od ia ls ch it ma io M0) := by
  refine Ct.of "OrderDesk" (by decide +kernel) rfl (by simp [cat_rf, cat_int]) (Nat.le_of_ble_eq_true rfl) (fun X hXl hXd hXn C E I hWT => ?_)
  subst hXl hXd hXn
  replace I := I rfl
  refine j_aload_n C d_Desk_init_0 rfl ?_
  refine j_obj C d_Desk_init_1 ml_Desk_1 (by decide) rfl (by simp [cat_rf, cat_int]) ?_
  refine j_aload_n C d_Desk_init_4 rfl ?_
  refine j_new C d_Desk_init_5 cl_Orders rfl cn_Desk_7 in_Orders ni_Orders df_Orders (Nat.le_of_ble_eq_true rfl) (Nat.le_of_ble_eq_true rfl) (fun q5 hq5 => ?_)
  have haq : a ≠ q5 := fresh_ne ha hq5
  refine j_dup C d_Desk_init_8 (by first | rfl | exact cat_rf _) ?_
  refine j_sipush (v := 200) C d_Desk_init_9 (by decide) ?_
  refine j_callI C [.int 200] d_Desk_init_12 ml_Desk_11 mi_Orders_init rfl k_Orders_init (c_Orders_init _ _ _ (va_up_self _ _ _) rfl) (by decide) (by decide) rfl (Nat.le_of_ble_eq_true rfl) (Nat.le_of_ble_eq_true rfl) rfl (by simp [cat_rf, cat_int]) (fun v12 tt12 mi12 mr12 p12 => ?_)
  obtain ⟨rfl, e1, e2, e3, ia, ls, ch, F, it, ma, ms, f1, f2, f3, f4, f5, f6, f7, f8, f9, f10, f11, f12⟩ := p12
  have ha12 : tt12 a = some (.inl 5) := e1 _ _ (Ext.new hq5 _ _ ha)
  have hq12 : tt12 q5 = some (.inl 4) := e1 _ _ (va_up_self _ _ _)
  refine j_putr C d_Desk_init_15 fl_Desk_14 cl_Desk (fun C T N h => by cases h; exact Or.inr ⟨rfl, I, rfl⟩) rfl ha12 (by intro b hb; cases hb; exact hq12) (fun f g => ⟨rfl, Nat.le_of_ble_eq_true rfl⟩) rfl (fun mr15 hr15 => ?_)
  refine j_widen (ce' := 3604) (sl' := 19665) (by omega) (by omega) ?_
  refine j_vret C E d_Desk_init_18 ?_
  have R15 : ∀ b q, tt12 b = some q → q ≠ .inl 5 → mr15 b = mr12 b := fun b q hb hq => by rw [hr15, up2_off _ _ _ _ (kne hb ha12 hq)]
  refine ⟨rfl, (Ext.new hq5).trans e1, fun b q hb hs => ?_, q5, ia, ls, ch, it, ma, _, dk_init (F := F) (ms := ms) ha12 (by rw [hr15, up2_ap, if_pos ⟨rfl, rfl⟩]) hq12 ?_ ?_ f2 (fun i hi => ⟨?_, ?_⟩) f4 f5 ?_ f7 ?_ f9 f10 ?_ (fun q hq => ?_)⟩
  · have hbq := fresh_ne hb hq5
    have := e2 b q (Ext.new hq5 _ _ hb) hbq
    rw [va_up_ne _ _ hbq, va_up_ne _ _ hbq] at this
    rw [hr15, up2_off _ _ _ _ hs]
    exact this
  · rw [e3, va_up_self]
  · rw [R15 q5 _ hq12 (by simp), f1, va_up_self]
  · rw [R15 ia _ f2 (by simp)]; exact (f3 i hi).1
  · exact (f3 i hi).2.keep Ext.refl (fun b q hb hq => ⟨rfl, R15 b q hb (by rcases hq with z | z | z <;> rw [z] <;> simp)⟩)
  · rw [R15 ls _ f4 (by simp)]; exact f6
  · rw [R15 ch _ f7 (by simp)]; exact f8
  · exact f11.congr (by rw [R15 ls _ f4 (by simp)]) (fun y hy => by rw [R15 y _ (f12 y hy).1 (by simp)])
  · obtain ⟨w1, w2, w3, w4⟩ := f12 q hq
    rw [R15 q _ w1 (by simp)]
    exact ⟨w1, w2, w3, w4⟩

set_option maxHeartbeats 4000000 in
set_option maxRecDepth 100000 in
/-- OrderDeskModel() -/
theorem c_Model_init (l : Launch) (D : jD) (N0 : Nat) {tt : jT} {mi : jI} {mr : jR} {a : Nat} (ha : tt a = some (.inl 6)) (h5 : mi a 5 = 0) : Ct l D N0 1 5 2400 y_Model_init b_Model_init 1 none [va_rf (some a)] tt mi mr (fun v tt' mi' mr' => v = none ∧ Ext tt tt' ∧ Old (fun b => b = a) tt mi mr mi' mr' ∧ ∃ (aq ap aa am ak : Nat), MR tt' mi' mr' a aq ap aa am ak M0) := by
  refine Ct.of "OrderDeskModel" (by decide +kernel) rfl (by simp [cat_rf, cat_int]) (Nat.le_of_ble_eq_true rfl) (fun X hXl hXd hXn C E I hWT => ?_)
  subst hXl hXd hXn
  replace I := I rfl
  refine j_aload_n C d_Model_init_0 rfl ?_
  refine j_obj C d_Model_init_1 ml_Model_1 (by decide) rfl (by simp [cat_rf, cat_int]) ?_
  refine j_aload_n C d_Model_init_4 rfl ?_
  refine j_sipush (v := 200) C d_Model_init_5 (by decide) ?_
  refine j_newa C (t := 4) 200 d_Model_init_8 (by simp) rfl (by decide) (Nat.le_of_ble_eq_true rfl) (Nat.le_of_ble_eq_true rfl) (fun q8 hq8 => ?_)
  have na8 : a ≠ q8 := fresh_ne ha hq8
  have ha8 := Ext.new (k := .inr (4, 200)) hq8 _ _ ha
  have k8_8 : va_up tt q8 (some (.inr (4, 200))) q8 = some (.inr (4, 200)) := va_up_self _ _ _
  refine j_putr C d_Model_init_10 fl_Model_7 cl_Model (fun C T N h => by cases h; exact Or.inr ⟨rfl, I, rfl⟩) rfl (ha8) (by intro b hb; cases hb; exact va_up_self _ _ _) (fun f g => ⟨rfl, Nat.le_of_ble_eq_true rfl⟩) rfl (fun mr10 hr10 => ?_)
  refine j_aload_n C d_Model_init_13 rfl ?_
  refine j_sipush (v := 200) C d_Model_init_14 (by decide) ?_
  refine j_newa C (t := 3) 200 d_Model_init_17 (by simp) rfl (by decide) (Nat.le_of_ble_eq_true rfl) (Nat.le_of_ble_eq_true rfl) (fun q17 hq17 => ?_)
  have na17 : a ≠ q17 := fresh_ne ha8 hq17
  have n8_17 : q8 ≠ q17 := fresh_ne k8_8 hq17
  have ha17 := Ext.new (k := .inr (3, 200)) hq17 _ _ ha8
  have k8_17 := Ext.new (k := .inr (3, 200)) hq17 _ _ k8_8
  have k17_17 : va_up (va_up tt q8 (some (.inr (4, 200)))) q17 (some (.inr (3, 200))) q17 = some (.inr (3, 200)) := va_up_self _ _ _
  refine j_putr C d_Model_init_19 fl_Model_13 cl_Model (fun C T N h => by cases h; exact Or.inr ⟨rfl, I, rfl⟩) rfl (ha17) (by intro b hb; cases hb; exact va_up_self _ _ _) (fun f g => ⟨rfl, Nat.le_of_ble_eq_true rfl⟩) rfl (fun mr19 hr19 => ?_)
  refine j_aload_n C d_Model_init_22 rfl ?_
  refine j_sipush (v := 200) C d_Model_init_23 (by decide) ?_
  refine j_newa C (t := 3) 200 d_Model_init_26 (by simp) rfl (by decide) (Nat.le_of_ble_eq_true rfl) (Nat.le_of_ble_eq_true rfl) (fun q26 hq26 => ?_)
  have na26 : a ≠ q26 := fresh_ne ha17 hq26
  have n8_26 : q8 ≠ q26 := fresh_ne k8_17 hq26
  have n17_26 : q17 ≠ q26 := fresh_ne k17_17 hq26
  have ha26 := Ext.new (k := .inr (3, 200)) hq26 _ _ ha17
  have k8_26 := Ext.new (k := .inr (3, 200)) hq26 _ _ k8_17
  have k17_26 := Ext.new (k := .inr (3, 200)) hq26 _ _ k17_17
  have k26_26 : va_up (va_up (va_up tt q8 (some (.inr (4, 200)))) q17 (some (.inr (3, 200)))) q26 (some (.inr (3, 200))) q26 = some (.inr (3, 200)) := va_up_self _ _ _
  refine j_putr C d_Model_init_28 fl_Model_17 cl_Model (fun C T N h => by cases h; exact Or.inr ⟨rfl, I, rfl⟩) rfl (ha26) (by intro b hb; cases hb; exact va_up_self _ _ _) (fun f g => ⟨rfl, Nat.le_of_ble_eq_true rfl⟩) rfl (fun mr28 hr28 => ?_)
  refine j_aload_n C d_Model_init_31 rfl ?_
  refine j_sipush (v := 200) C d_Model_init_32 (by decide) ?_
  refine j_newa C (t := 3) 200 d_Model_init_35 (by simp) rfl (by decide) (Nat.le_of_ble_eq_true rfl) (Nat.le_of_ble_eq_true rfl) (fun q35 hq35 => ?_)
  have na35 : a ≠ q35 := fresh_ne ha26 hq35
  have n8_35 : q8 ≠ q35 := fresh_ne k8_26 hq35
  have n17_35 : q17 ≠ q35 := fresh_ne k17_26 hq35
  have n26_35 : q26 ≠ q35 := fresh_ne k26_26 hq35
  have ha35 := Ext.new (k := .inr (3, 200)) hq35 _ _ ha26
  have k8_35 := Ext.new (k := .inr (3, 200)) hq35 _ _ k8_26
  have k17_35 := Ext.new (k := .inr (3, 200)) hq35 _ _ k17_26
  have k26_35 := Ext.new (k := .inr (3, 200)) hq35 _ _ k26_26
  have k35_35 : va_up (va_up (va_up (va_up tt q8 (some (.inr (4, 200)))) q17 (some (.inr (3, 200)))) q26 (some (.inr (3, 200)))) q35 (some (.inr (3, 200))) q35 = some (.inr (3, 200)) := va_up_self _ _ _
  refine j_putr C d_Model_init_37 fl_Model_20 cl_Model (fun C T N h => by cases h; exact Or.inr ⟨rfl, I, rfl⟩) rfl (ha35) (by intro b hb; cases hb; exact va_up_self _ _ _) (fun f g => ⟨rfl, Nat.le_of_ble_eq_true rfl⟩) rfl (fun mr37 hr37 => ?_)
  refine j_aload_n C d_Model_init_40 rfl ?_
  refine j_sipush (v := 1600) C d_Model_init_41 (by decide) ?_
  refine j_newa C (t := 3) 1600 d_Model_init_44 (by simp) rfl (by decide) (Nat.le_of_ble_eq_true rfl) (Nat.le_of_ble_eq_true rfl) (fun q44 hq44 => ?_)
  have na44 : a ≠ q44 := fresh_ne ha35 hq44
  have n8_44 : q8 ≠ q44 := fresh_ne k8_35 hq44
  have n17_44 : q17 ≠ q44 := fresh_ne k17_35 hq44
  have n26_44 : q26 ≠ q44 := fresh_ne k26_35 hq44
  have n35_44 : q35 ≠ q44 := fresh_ne k35_35 hq44
  have ha44 := Ext.new (k := .inr (3, 1600)) hq44 _ _ ha35
  have k8_44 := Ext.new (k := .inr (3, 1600)) hq44 _ _ k8_35
  have k17_44 := Ext.new (k := .inr (3, 1600)) hq44 _ _ k17_35
  have k26_44 := Ext.new (k := .inr (3, 1600)) hq44 _ _ k26_35
  have k35_44 := Ext.new (k := .inr (3, 1600)) hq44 _ _ k35_35
  have k44_44 : va_up (va_up (va_up (va_up (va_up tt q8 (some (.inr (4, 200)))) q17 (some (.inr (3, 200)))) q26 (some (.inr (3, 200)))) q35 (some (.inr (3, 200)))) q44 (some (.inr (3, 1600))) q44 = some (.inr (3, 1600)) := va_up_self _ _ _
  refine j_putr C d_Model_init_46 fl_Model_23 cl_Model (fun C T N h => by cases h; exact Or.inr ⟨rfl, I, rfl⟩) rfl (ha44) (by intro b hb; cases hb; exact va_up_self _ _ _) (fun f g => ⟨rfl, Nat.le_of_ble_eq_true rfl⟩) rfl (fun mr46 hr46 => ?_)
  refine j_vret C E d_Model_init_49 ?_
  refine ⟨rfl, (Ext.new hq8).trans ((Ext.new hq17).trans ((Ext.new hq26).trans ((Ext.new hq35).trans (Ext.new hq44)))), fun b q hb hs => ?_, q8, q17, q26, q35, q44, ⟨ha44, ?_, ?_, ?_, ?_, ?_⟩, ⟨k8_44, k17_44, k26_44, k35_44, k44_44, n17_26, n17_35, n26_35⟩, ?_, fun i hi => ⟨?_, ?_, ?_, ?_, fun k p hk => ?_⟩⟩
  · have f8 := fresh_ne hb hq8
    have f17 := fresh_ne (Ext.new (k := .inr (4, 200)) hq8 _ _ hb) hq17
    have f26 := fresh_ne (Ext.new (k := .inr (3, 200)) hq17 _ _ (Ext.new (k := .inr (4, 200)) hq8 _ _ hb)) hq26
    have f35 := fresh_ne (Ext.new (k := .inr (3, 200)) hq26 _ _ (Ext.new (k := .inr (3, 200)) hq17 _ _ (Ext.new (k := .inr (4, 200)) hq8 _ _ hb))) hq35
    have f44 := fresh_ne (Ext.new (k := .inr (3, 200)) hq35 _ _ (Ext.new (k := .inr (3, 200)) hq26 _ _ (Ext.new (k := .inr (3, 200)) hq17 _ _ (Ext.new (k := .inr (4, 200)) hq8 _ _ hb)))) hq44
    refine ⟨by rw [va_up_ne _ _ f44, va_up_ne _ _ f35, va_up_ne _ _ f26, va_up_ne _ _ f17, va_up_ne _ _ f8], ?_⟩
    have hs : b ≠ a := hs
    rw [hr46, up2_off _ _ _ _ hs, va_up_ne _ _ f44, hr37, up2_off _ _ _ _ hs, va_up_ne _ _ f35, hr28, up2_off _ _ _ _ hs, va_up_ne _ _ f26, hr19, up2_off _ _ _ _ hs, va_up_ne _ _ f17, hr10, up2_off _ _ _ _ hs, va_up_ne _ _ f8]
  · rw [hr46, up2_row, va_up_ne _ _ na44, hr37, up2_row, va_up_ne _ _ na35, hr28, up2_row, va_up_ne _ _ na26, hr19, up2_row, va_up_ne _ _ na17, hr10, up2_row]; simp [va_up]
  · rw [hr46, up2_row, va_up_ne _ _ na44, hr37, up2_row, va_up_ne _ _ na35, hr28, up2_row, va_up_ne _ _ na26, hr19, up2_row, va_up_ne _ _ na17, hr10, up2_row]; simp [va_up]
  · rw [hr46, up2_row, va_up_ne _ _ na44, hr37, up2_row, va_up_ne _ _ na35, hr28, up2_row, va_up_ne _ _ na26, hr19, up2_row, va_up_ne _ _ na17, hr10, up2_row]; simp [va_up]
  · rw [hr46, up2_row, va_up_ne _ _ na44, hr37, up2_row, va_up_ne _ _ na35, hr28, up2_row, va_up_ne _ _ na26, hr19, up2_row, va_up_ne _ _ na17, hr10, up2_row]; simp [va_up]
  · rw [hr46, up2_row, va_up_ne _ _ na44, hr37, up2_row, va_up_ne _ _ na35, hr28, up2_row, va_up_ne _ _ na26, hr19, up2_row, va_up_ne _ _ na17, hr10, up2_row]; simp [va_up]
  · rw [va_up_ne _ _ na44, va_up_ne _ _ na35, va_up_ne _ _ na26, va_up_ne _ _ na17, va_up_ne _ _ na8, h5]; rfl
  · rw [va_up_ne _ _ n8_44, va_up_ne _ _ n8_35, va_up_ne _ _ n8_26, va_up_ne _ _ n8_17, va_up_self]; rfl
  · rw [va_up_ne _ _ n17_44, va_up_ne _ _ n17_35, va_up_ne _ _ n17_26, va_up_self]; rfl
  · rw [va_up_ne _ _ n26_44, va_up_ne _ _ n26_35, va_up_self]; rfl
  · rw [va_up_ne _ _ n35_44, va_up_self]; rfl
  · simp [tkM, M0] at hk
end
section
/-! THE CLAIM OUT OF ONE WALK OF THE LAW'S BODY. Your part is whole_start (and what it stands on); all else here is the same for every law, but numbers. -/
def R_law : String := "OrderDeskLaw"
def lw_P (b : Addr) (xs : List Int32) (args : Array Value) (s : State) : Prop := args = #[.ref b] ∧ s.IntsAt b xs ∧ xs.length ≤ 1536 ∧ (Jvm.Cond.and given_1 narrow_1).before args s = true
def lw_Q (_ : Array Value) (s : State) (o : Outcome) (t : State) : Prop := o = .returned (some (.int 1)) ∧ Framed s o t [] 973907 6180526
def lw_Z (below : List Frame) (a : Array Value) (s : State) : State → Prop := fun t => ∃ o, t.status = .running ∧ Ended t below o ∧ lw_Q a s o t
/-- the law's own end, with 1 on the stack, nothing written that was there before, its room as the claim has it -/
theorem lw_ret {p : Program} {l : Launch} {e : Env} {s : State} {m : MethodId} {below : List Frame} {meth : Method} {c : Code} {b : Nat} (hx : p.tables.exec = Jvm.exec) (hb : c.code = code) (hr : meth.sig.returnType = ret) (hlocks : meth.locks = false) {pc : Nat} {H : Heap} {ls : Array Slot} (hdg : decode code pc = .ok (.ireturn, 1)) : W p l e room_1 s m #[Value.ref b] below meth c H [] 973907 6180526 (lw_Z below #[Value.ref b] s) (F0 m pc ls [.int 1]) := by
  intro T hT X
  obtain ⟨fs, hret, hrun, hended, hW, hframe⟩ := X.leave (v := some (.int 1)) (hlocks := hlocks) (fun h => by rw [hr] at h; cases h)
  have hmeth' : T.vm.method? m = some meth := X.method'
  refine ⟨T.setFrames fs, ?_, .returned (some (.int 1)), hrun, hended, rfl, ⟨_, rfl⟩, hW, hframe⟩
  jvm_step X.here [X.here.top, hx, hb, hdg, hmeth', hr, ret, narrow_b1]
  (try refine ⟨rfl, ?_⟩); (try refine ⟨rfl, ?_⟩)
  first | (intro acts; rw [hret _ acts rfl rfl rfl]) | rw [hret _ _ rfl rfl rfl]
  exact Steps.refl _
/-- what holds at the law's entry: the machine, the code, the tables' words (any of lw_tbl by 'hts w (by decide +kernel)'), the script of L ints xs at the cell b, what the Statement gives of the start (any of its parts by flat_of_before) -/
def lw_At (p : Program) (s : State) (m : MethodId) (meth : Method) (c : Code) (b L : Nat) (xs : Nat → Int32) : Prop :=
  p.tables.exec = Jvm.exec ∧ c.code = code ∧ meth.sig.returnType = ret ∧ c.maxLocals = 4 ∧ s.vm.findClass R_law = some m.cls ∧ (∀ w ∈ lw_tbl, w.before #[Value.ref b] s = true) ∧ va_X b L xs s s.heap ∧ b < s.heap.size ∧ meth.locks = false ∧ (Jvm.Cond.and given_1 narrow_1).before #[Value.ref b] s = true
end
section
/-! THE LAW's LOOP -/
def jscr (X : jX) (b L : Nat) (xs : Nat → Int32) : Prop := match X with
  | (_, _, _, _, s, _, _, _, _, _, _, _, N0) => va_X b L xs s s.heap ∧ b < s.heap.size ∧ N0 = s.heap.size
def jlaw (X : jX) (b : Nat) : Prop := match X with
  | (_, _, _, R, s, _, args, below, meth, _, Q, _, N0) => R = room_1 ∧ args = #[Value.ref b] ∧ Q = lw_Z below #[Value.ref b] s ∧ meth.sig.returnType = ret ∧ N0 = s.heap.size
section LJ
variable {X : jX} {cc : ByteArray} {own : String} {n lev mc ms : Nat} {tt : jT} {mi : jI} {mr : jR} {ce sl pc : Nat} {lv : List (Option Value)} {st : List Value} {b L : Nat} {xs : Nat → Int32}
theorem j_sld (C : jok X cc own n lev mc ms) (hX : jscr X b L xs) {i : Int32} (j : Nat) (hd : decode cc pc = .ok (.iaload, 1)) (hi : i = nI j) (hj : j < L) (hL : L < 2 ^ 31) (kk : J X tt mi mr ce sl (pc + 1) lv (.int (xs j) :: st)) : J X tt mi mr ce sl pc lv (.int i :: va_rf (some b) :: st) := by
  obtain ⟨p, l, e, R, s, m, args, below, meth, c0, Q, D, N0⟩ := X
  obtain ⟨hx, hb, hown, hts, hml, hlk, hK, hfr, hlo, hce, hsl, hN0⟩ := C
  obtain ⟨hX, hbl, hN⟩ := hX
  intro H locs ls hH hS hl
  subst hi
  have hbA : ¬ jA N0 b := by rw [hN]; exact Nat.not_le.mpr hbl
  refine va_sld hx hb hX hbl hbA hS (vp_in_nI hj hL) hd ?_
  rw [nI_clamp (Nat.lt_trans hj hL)]
  exact kk H locs ls hH hS hl
theorem j_slen (C : jok X cc own n lev mc ms) (hX : jscr X b L xs) (hd : decode cc pc = .ok (.arraylength, 1)) (kk : J X tt mi mr ce sl (pc + 1) lv (.int (nI L) :: st)) : J X tt mi mr ce sl pc lv (va_rf (some b) :: st) := by
  obtain ⟨p, l, e, R, s, m, args, below, meth, c0, Q, D, N0⟩ := X
  obtain ⟨hx, hb, hown, hts, hml, hlk, hK, hfr, hlo, hce, hsl, hN0⟩ := C
  obtain ⟨hX, hbl, hN⟩ := hX
  intro H locs ls hH hS hl
  have hbA : ¬ jA N0 b := by rw [hN]; exact Nat.not_le.mpr hbl
  exact va_slen hx hb hX hbl hbA hS hd (kk H locs ls hH hS hl)
theorem j_lret (C : jok X code own n lev mc ms) (E : jlaw X b) (hd : decode code pc = .ok (.ireturn, 1)) (hce : ce ≤ 973907) (hsl : sl ≤ 6180526) : J X tt mi mr ce sl pc lv [.int 1] := by
  obtain ⟨p, l, e, R, s, m, args, below, meth, c0, Q, D, N0⟩ := X
  obtain ⟨hx, hb, hown, hts, hml, hlk, hK, hfr, hlo, hRc, hRs, hN0⟩ := C
  obtain ⟨e1, e2, e3, e4, e5⟩ := E
  intro H locs ls hH hS hl
  subst e1 e2 e3
  refine va_forget (fun q hq => ?_) ?_
  · have h1 : N0 ≤ q.base := hS.2.2 q hq
    rw [e5] at h1
    exact h1
  · exact W.widen hce hsl (lw_ret hx hb e4 hlk hd)
end LJ
theorem nxS_u {M : Mt} {x r r' : Int32} (h : nxS M x r) (h' : nxS M x r') : r = r' := by
  unfold nxS at h h'
  split at h
  next z => rw [if_pos z] at h'; exact bst_uniq h h'
  next z => rw [if_neg z] at h'; rw [h, h']
theorem hdS_u {M : Mt} {l : Bool} {x r r' : Int32} (h : hdS M l x r) (h' : hdS M l x r') : r = r' := by
  unfold hdS at h h'
  split at h
  next z => rw [if_pos z] at h'; exact bst_uniq h h'
  next z => rw [if_neg z] at h'; rw [h, h']
theorem bhS_u {M : Mt} {x p r r' : Int32} (h : bhS M x p r) (h' : bhS M x p r') : r = r' := by
  unfold bhS at h h'
  split at h
  next z => rw [if_pos z] at h'; exact bst_uniq h h'
  next z => rw [if_neg z] at h'; rw [h, h']
theorem hsS_u {M : Mt} {x r r' : Int32} (h : hsS M x r) (h' : hsS M x r') : r = r' := by
  obtain ⟨a, e, h⟩ := h
  obtain ⟨a', e', h'⟩ := h'
  have : a = a' := by
    rw [Bool.eq_iff_iff, h, h']
  rw [e, e', this]
theorem nM_take (M : Mt) (x p : Int32) : nM (takeM M x p) = nM M := by unfold takeM; split <;> rfl
theorem nM_join (M : Mt) (x p : Int32) : nM (joinM M x p) = nM M := by unfold joinM; split <;> rfl
theorem nM_part (M : Mt) (x p : Int32) : nM (partM M x p) = nM M := by unfold partM; split <;> rfl
theorem nM_leave (M : Mt) (x : Int32) : nM (leaveM M x) = nM M := by unfold leaveM; split <;> rfl
theorem nM_arr (M : Mt) (b : Bool) (x p : Int32) : nM (arrM M b x p) ≤ nM M + 1 := by
  unfold arrM
  split
  · exact Nat.le_refl _
  · exact Nat.le_succ _

set_option maxHeartbeats 8000000 in
set_option maxRecDepth 100000 in
theorem law_loop {X : jX} {b L : Nat} {xs : Nat → Int32} (hL : L ≤ 1536) (C : jok X code "OrderDeskLaw" 4 7 973907 6180526) (E : jlaw X b) (hXs : jscr X b L xs) {tt : jT} {dk od ia ls ch : Nat} {it ma io : Nat → Nat} {md aq ap aa am ak : Nat} : ∀ (n k : Nat) (mi : jI) (mr : jR) (M : Mt), 3 * k ≤ L → L < 3 * k + 3 * n → Dk tt mi mr dk od ia ls ch it ma io M → MR tt mi mr md aq ap aa am ak M → MI M → nM M ≤ k → J X tt mi mr 3611 22072 18 [some (va_rf (some b)), some (va_rf (some dk)), some (va_rf (some md)), some (.int (nI (3 * k)))] [] := by
  intro n
  induction n with
  | zero => intro k mi mr M h1 h2; exact absurd h2 (by omega)
  | succ n ih =>
    intro k mi mr M hk hnk hD hR hM hnM
    have hn : nM M < 2 ^ 30 := by omega
    have hlen : ∀ i, i < 200 → (tkM M i).length ≤ 8 := fun i hi => (hM.1 i hi).2.1
    have tdk : tt dk = some (.inl 5) := by obtain ⟨_, _, _, _, _, hS, -⟩ := id hD; exact hS.1.1
    have tmd : tt md = some (.inl 6) := hR.1.1
    refine j_iload_n C d_law_18 rfl ?_
    refine j_aload_n C d_law_19 rfl ?_
    refine j_slen C hXs d_law_20 ?_
    refine j_iconst (v := 3) C d_law_21 (by decide) ?_
    refine j_isub C d_law_22 ?_
    refine j_icmp_gt (tgt := 546) C d_law_23 (by decide) (fun c => ?_) (fun c => ?_)
    · refine j_iconst (v := 1) C d_law_546 (by decide) ?_
      exact j_lret C E d_law_547 (by omega) (by omega)
    · have hk3 : 3 * k + 3 ≤ L := by
        rw [Int32.lt_iff_toInt_lt, show (3 : Int32) = nI 3 from rfl, pk_sub_toInt (by omega) (by omega), nI_toInt (by omega)] at c
        omega
      refine j_aload_n C d_law_26 rfl ?_
      refine j_iload_n C d_law_27 rfl ?_
      refine j_sld C hXs (3 * k) d_law_28 rfl (by omega) (by omega) ?_
      refine j_bipush (v := 15) C d_law_29 (by decide) ?_
      refine j_iand C d_law_31 ?_
      obtain ⟨j, hj, ej⟩ := pk_andE (xs (3 * k)) (m := 15) 4 rfl
      rw [ej]
      have hj : j < 16 := hj
      rcases (show j = 0 ∨ j = 1 ∨ j = 2 ∨ j = 3 ∨ j = 4 ∨ j = 5 ∨ j = 6 ∨ j = 7 ∨ j = 8 ∨ j = 9 ∨ j = 10 ∨ j = 11 ∨ j = 12 ∨ j = 13 ∨ j = 14 ∨ j = 15 by omega) with rfl | rfl | rfl | rfl | rfl | rfl | rfl | rfl | rfl | rfl | rfl | rfl | rfl | rfl | rfl | rfl
      · refine j_tabIn (tgt := 112) (off := 80) C d_law_32 (by decide) (by decide) rfl (by decide) ?_
        refine j_aload_n C d_law_112 rfl ?_
        refine j_aload_n C d_law_113 rfl ?_
        refine j_iload_n C d_law_114 rfl ?_
        refine j_iconst (v := 1) C d_law_115 (by decide) ?_
        refine j_iadd C d_law_116 ?_
        refine j_sld C hXs (3 * k + 1) d_law_117 (nI_1 _) (by omega) (by omega) ?_
        refine j_aload_n C d_law_118 rfl ?_
        refine j_iload_n C d_law_119 rfl ?_
        refine j_iconst (v := 2) C d_law_120 (by decide) ?_
        refine j_iadd C d_law_121 ?_
        refine j_sld C hXs (3 * k + 2) d_law_122 (nI_add _ 2) (by omega) (by omega) ?_
        refine j_callV C [.int (xs (3 * k + 1)), .int (xs (3 * k + 2))] d_law_123 ml_law_13 mv_Desk_take k_Desk_take ⟨_, _, rfl⟩ tdk (c_Desk_take _ _ _ hD hM (xs (3 * k + 1)) (xs (3 * k + 2))) (by decide) (by decide) rfl (Nat.le_of_ble_eq_true rfl) (Nat.le_of_ble_eq_true rfl) rfl (by simp [cat_rf, cat_int]) (fun v1 tt1 mi1 mr1 p1 => ?_)
        obtain ⟨rfl, hF1, rfl, hD1⟩ := p1
        have hR1 := hR.keep hF1
        change J X _ mi1 mr1 3611 22072 126 _ [.int _]
        refine j_aload_n C d_law_126 rfl ?_
        refine j_aload_n C d_law_127 rfl ?_
        refine j_iload_n C d_law_128 rfl ?_
        refine j_iconst (v := 1) C d_law_129 (by decide) ?_
        refine j_iadd C d_law_130 ?_
        refine j_sld C hXs (3 * k + 1) d_law_131 (nI_1 _) (by omega) (by omega) ?_
        refine j_aload_n C d_law_132 rfl ?_
        refine j_iload_n C d_law_133 rfl ?_
        refine j_iconst (v := 2) C d_law_134 (by decide) ?_
        refine j_iadd C d_law_135 ?_
        refine j_sld C hXs (3 * k + 2) d_law_136 (nI_add _ 2) (by omega) (by omega) ?_
        refine j_callV C [.int (xs (3 * k + 1)), .int (xs (3 * k + 2))] d_law_137 ml_law_17 mv_Model_take k_Model_take ⟨_, _, rfl⟩ tmd (c_Model_take _ _ _ hR1 hlen (xs (3 * k + 1)) (xs (3 * k + 2))) (by decide) (by decide) rfl (Nat.le_of_ble_eq_true rfl) (Nat.le_of_ble_eq_true rfl) rfl (by simp [cat_rf, cat_int]) (fun v2 tt2 mi2 mr2 p2 => ?_)
        obtain ⟨rfl, hF2, rfl, hR2⟩ := p2
        have hD2 := hD1.keep hF2
        change J X _ mi2 mr2 3611 22072 140 _ [.int _, .int _]
        refine j_icmp_eq (tgt := 540) C d_law_140 (by decide) (fun c9 => ?_) (fun c9 => ?_)
        · refine j_iinc C d_law_540 rfl (nI_add (3 * k) 3) ?_
          refine j_goto (tgt := 18) C d_law_543 (by decide) ?_
          exact ih (k + 1) _ _ (takeM M (xs (3 * k + 1)) (xs (3 * k + 2))) (by omega) (by omega) hD2 hR2 (hM.take _ _) (by rw [nM_take]; omega)
        · exact absurd (rfl) c9
      · refine j_tabIn (tgt := 145) (off := 113) C d_law_32 (by decide) (by decide) rfl (by decide) ?_
        refine j_aload_n C d_law_145 rfl ?_
        refine j_aload_n C d_law_146 rfl ?_
        refine j_iload_n C d_law_147 rfl ?_
        refine j_iconst (v := 1) C d_law_148 (by decide) ?_
        refine j_iadd C d_law_149 ?_
        refine j_sld C hXs (3 * k + 1) d_law_150 (nI_1 _) (by omega) (by omega) ?_
        refine j_aload_n C d_law_151 rfl ?_
        refine j_iload_n C d_law_152 rfl ?_
        refine j_iconst (v := 2) C d_law_153 (by decide) ?_
        refine j_iadd C d_law_154 ?_
        refine j_sld C hXs (3 * k + 2) d_law_155 (nI_add _ 2) (by omega) (by omega) ?_
        refine j_callV C [.int (xs (3 * k + 1)), .int (xs (3 * k + 2))] d_law_156 ml_law_18 mv_Desk_come k_Desk_come ⟨_, _, rfl⟩ tdk (c_Desk_come _ _ _ hD hM hn (xs (3 * k + 1)) (xs (3 * k + 2))) (by decide) (by decide) rfl (Nat.le_of_ble_eq_true rfl) (Nat.le_of_ble_eq_true rfl) rfl (by simp [cat_rf, cat_int]) (fun v1 tt1 mi1 mr1 p1 => ?_)
        obtain ⟨rfl, hF1, rfl, hD1⟩ := p1
        have hR1 := hR.keep hF1
        change J X _ mi1 mr1 3611 22072 159 _ [.int _]
        refine j_aload_n C d_law_159 rfl ?_
        refine j_aload_n C d_law_160 rfl ?_
        refine j_iload_n C d_law_161 rfl ?_
        refine j_iconst (v := 1) C d_law_162 (by decide) ?_
        refine j_iadd C d_law_163 ?_
        refine j_sld C hXs (3 * k + 1) d_law_164 (nI_1 _) (by omega) (by omega) ?_
        refine j_aload_n C d_law_165 rfl ?_
        refine j_iload_n C d_law_166 rfl ?_
        refine j_iconst (v := 2) C d_law_167 (by decide) ?_
        refine j_iadd C d_law_168 ?_
        refine j_sld C hXs (3 * k + 2) d_law_169 (nI_add _ 2) (by omega) (by omega) ?_
        refine j_callV C [.int (xs (3 * k + 1)), .int (xs (3 * k + 2))] d_law_170 ml_law_22 mv_Model_come k_Model_come ⟨_, _, rfl⟩ tmd (c_Model_come _ _ _ hR1 (xs (3 * k + 1)) (xs (3 * k + 2))) (by decide) (by decide) rfl (Nat.le_of_ble_eq_true rfl) (Nat.le_of_ble_eq_true rfl) rfl (by simp [cat_rf, cat_int]) (fun v2 tt2 mi2 mr2 p2 => ?_)
        obtain ⟨rfl, hF2, rfl, hR2⟩ := p2
        have hD2 := hD1.keep hF2
        change J X _ mi2 mr2 3611 22072 173 _ [.int _, .int _]
        refine j_icmp_eq (tgt := 540) C d_law_173 (by decide) (fun c9 => ?_) (fun c9 => ?_)
        · refine j_iinc C d_law_540 rfl (nI_add (3 * k) 3) ?_
          refine j_goto (tgt := 18) C d_law_543 (by decide) ?_
          exact ih (k + 1) _ _ (arrM M (comeB M (xs (3 * k + 1)) (xs (3 * k + 2))) (xs (3 * k + 1)) (xs (3 * k + 2))) (by omega) (by omega) hD2 hR2 (hM.arr hn _ _ _) (by have := nM_arr M (comeB M (xs (3 * k + 1)) (xs (3 * k + 2))) (xs (3 * k + 1)) (xs (3 * k + 2)); omega)
        · exact absurd (rfl) c9
      · refine j_tabIn (tgt := 178) (off := 146) C d_law_32 (by decide) (by decide) rfl (by decide) ?_
        refine j_aload_n C d_law_178 rfl ?_
        refine j_aload_n C d_law_179 rfl ?_
        refine j_iload_n C d_law_180 rfl ?_
        refine j_iconst (v := 1) C d_law_181 (by decide) ?_
        refine j_iadd C d_law_182 ?_
        refine j_sld C hXs (3 * k + 1) d_law_183 (nI_1 _) (by omega) (by omega) ?_
        refine j_callV C [.int (xs (3 * k + 1))] d_law_184 ml_law_23 mv_Desk_leave k_Desk_leave ⟨_, _, rfl⟩ tdk (c_Desk_leave _ _ _ hD hM (xs (3 * k + 1))) (by decide) (by decide) rfl (Nat.le_of_ble_eq_true rfl) (Nat.le_of_ble_eq_true rfl) rfl (by simp [cat_rf, cat_int]) (fun v1 tt1 mi1 mr1 p1 => ?_)
        obtain ⟨rfl, hF1, rfl, hD1⟩ := p1
        have hR1 := hR.keep hF1
        change J X _ mi1 mr1 3611 22072 187 _ [.int _]
        refine j_aload_n C d_law_187 rfl ?_
        refine j_aload_n C d_law_188 rfl ?_
        refine j_iload_n C d_law_189 rfl ?_
        refine j_iconst (v := 1) C d_law_190 (by decide) ?_
        refine j_iadd C d_law_191 ?_
        refine j_sld C hXs (3 * k + 1) d_law_192 (nI_1 _) (by omega) (by omega) ?_
        refine j_callV C [.int (xs (3 * k + 1))] d_law_193 ml_law_27 mv_Model_leave k_Model_leave ⟨_, _, rfl⟩ tmd (c_Model_leave _ _ _ hR1 (xs (3 * k + 1))) (by decide) (by decide) rfl (Nat.le_of_ble_eq_true rfl) (Nat.le_of_ble_eq_true rfl) rfl (by simp [cat_rf, cat_int]) (fun v2 tt2 mi2 mr2 p2 => ?_)
        obtain ⟨rfl, hF2, rfl, hR2⟩ := p2
        have hD2 := hD1.keep hF2
        change J X _ mi2 mr2 3611 22072 196 _ [.int _, .int _]
        refine j_icmp_eq (tgt := 540) C d_law_196 (by decide) (fun c9 => ?_) (fun c9 => ?_)
        · refine j_iinc C d_law_540 rfl (nI_add (3 * k) 3) ?_
          refine j_goto (tgt := 18) C d_law_543 (by decide) ?_
          exact ih (k + 1) _ _ (leaveM M (xs (3 * k + 1))) (by omega) (by omega) hD2 hR2 (hM.leave _) (by rw [nM_leave]; omega)
        · exact absurd (rfl) c9
      · refine j_tabIn (tgt := 201) (off := 169) C d_law_32 (by decide) (by decide) rfl (by decide) ?_
        refine j_aload_n C d_law_201 rfl ?_
        refine j_aload_n C d_law_202 rfl ?_
        refine j_iload_n C d_law_203 rfl ?_
        refine j_iconst (v := 1) C d_law_204 (by decide) ?_
        refine j_iadd C d_law_205 ?_
        refine j_sld C hXs (3 * k + 1) d_law_206 (nI_1 _) (by omega) (by omega) ?_
        refine j_aload_n C d_law_207 rfl ?_
        refine j_iload_n C d_law_208 rfl ?_
        refine j_iconst (v := 2) C d_law_209 (by decide) ?_
        refine j_iadd C d_law_210 ?_
        refine j_sld C hXs (3 * k + 2) d_law_211 (nI_add _ 2) (by omega) (by omega) ?_
        refine j_callV C [.int (xs (3 * k + 1)), .int (xs (3 * k + 2))] d_law_212 ml_law_28 mv_Desk_again k_Desk_again ⟨_, _, rfl⟩ tdk (c_Desk_again _ _ _ hD hM hn (xs (3 * k + 1)) (xs (3 * k + 2))) (by decide) (by decide) rfl (Nat.le_of_ble_eq_true rfl) (Nat.le_of_ble_eq_true rfl) rfl (by simp [cat_rf, cat_int]) (fun v1 tt1 mi1 mr1 p1 => ?_)
        obtain ⟨rfl, hF1, rfl, hD1⟩ := p1
        have hR1 := hR.keep hF1
        change J X _ mi1 mr1 3611 22072 215 _ [.int _]
        refine j_aload_n C d_law_215 rfl ?_
        refine j_aload_n C d_law_216 rfl ?_
        refine j_iload_n C d_law_217 rfl ?_
        refine j_iconst (v := 1) C d_law_218 (by decide) ?_
        refine j_iadd C d_law_219 ?_
        refine j_sld C hXs (3 * k + 1) d_law_220 (nI_1 _) (by omega) (by omega) ?_
        refine j_aload_n C d_law_221 rfl ?_
        refine j_iload_n C d_law_222 rfl ?_
        refine j_iconst (v := 2) C d_law_223 (by decide) ?_
        refine j_iadd C d_law_224 ?_
        refine j_sld C hXs (3 * k + 2) d_law_225 (nI_add _ 2) (by omega) (by omega) ?_
        refine j_callV C [.int (xs (3 * k + 1)), .int (xs (3 * k + 2))] d_law_226 ml_law_31 mv_Model_again k_Model_again ⟨_, _, rfl⟩ tmd (c_Model_again _ _ _ hR1 (xs (3 * k + 1)) (xs (3 * k + 2))) (by decide) (by decide) rfl (Nat.le_of_ble_eq_true rfl) (Nat.le_of_ble_eq_true rfl) rfl (by simp [cat_rf, cat_int]) (fun v2 tt2 mi2 mr2 p2 => ?_)
        obtain ⟨rfl, hF2, rfl, hR2⟩ := p2
        have hD2 := hD1.keep hF2
        change J X _ mi2 mr2 3611 22072 229 _ [.int _, .int _]
        refine j_icmp_eq (tgt := 540) C d_law_229 (by decide) (fun c9 => ?_) (fun c9 => ?_)
        · refine j_iinc C d_law_540 rfl (nI_add (3 * k) 3) ?_
          refine j_goto (tgt := 18) C d_law_543 (by decide) ?_
          exact ih (k + 1) _ _ (arrM M (againB M (xs (3 * k + 1)) (xs (3 * k + 2))) (xs (3 * k + 1)) (xs (3 * k + 2))) (by omega) (by omega) hD2 hR2 (hM.arr hn _ _ _) (by have := nM_arr M (againB M (xs (3 * k + 1)) (xs (3 * k + 2))) (xs (3 * k + 1)) (xs (3 * k + 2)); omega)
        · exact absurd (rfl) c9
      · refine j_tabIn (tgt := 234) (off := 202) C d_law_32 (by decide) (by decide) rfl (by decide) ?_
        refine j_aload_n C d_law_234 rfl ?_
        refine j_aload_n C d_law_235 rfl ?_
        refine j_iload_n C d_law_236 rfl ?_
        refine j_iconst (v := 1) C d_law_237 (by decide) ?_
        refine j_iadd C d_law_238 ?_
        refine j_sld C hXs (3 * k + 1) d_law_239 (nI_1 _) (by omega) (by omega) ?_
        refine j_aload_n C d_law_240 rfl ?_
        refine j_iload_n C d_law_241 rfl ?_
        refine j_iconst (v := 2) C d_law_242 (by decide) ?_
        refine j_iadd C d_law_243 ?_
        refine j_sld C hXs (3 * k + 2) d_law_244 (nI_add _ 2) (by omega) (by omega) ?_
        refine j_callV C [.int (xs (3 * k + 1)), .int (xs (3 * k + 2))] d_law_245 ml_law_32 mv_Desk_join k_Desk_join ⟨_, _, rfl⟩ tdk (c_Desk_join _ _ _ hD hM (xs (3 * k + 1)) (xs (3 * k + 2))) (by decide) (by decide) rfl (Nat.le_of_ble_eq_true rfl) (Nat.le_of_ble_eq_true rfl) rfl (by simp [cat_rf, cat_int]) (fun v1 tt1 mi1 mr1 p1 => ?_)
        obtain ⟨rfl, hF1, rfl, hD1⟩ := p1
        have hR1 := hR.keep hF1
        change J X _ mi1 mr1 3611 22072 248 _ [.int _]
        refine j_aload_n C d_law_248 rfl ?_
        refine j_aload_n C d_law_249 rfl ?_
        refine j_iload_n C d_law_250 rfl ?_
        refine j_iconst (v := 1) C d_law_251 (by decide) ?_
        refine j_iadd C d_law_252 ?_
        refine j_sld C hXs (3 * k + 1) d_law_253 (nI_1 _) (by omega) (by omega) ?_
        refine j_aload_n C d_law_254 rfl ?_
        refine j_iload_n C d_law_255 rfl ?_
        refine j_iconst (v := 2) C d_law_256 (by decide) ?_
        refine j_iadd C d_law_257 ?_
        refine j_sld C hXs (3 * k + 2) d_law_258 (nI_add _ 2) (by omega) (by omega) ?_
        refine j_callV C [.int (xs (3 * k + 1)), .int (xs (3 * k + 2))] d_law_259 ml_law_35 mv_Model_join k_Model_join ⟨_, _, rfl⟩ tmd (c_Model_join _ _ _ hR1 hlen (xs (3 * k + 1)) (xs (3 * k + 2))) (by decide) (by decide) rfl (Nat.le_of_ble_eq_true rfl) (Nat.le_of_ble_eq_true rfl) rfl (by simp [cat_rf, cat_int]) (fun v2 tt2 mi2 mr2 p2 => ?_)
        obtain ⟨rfl, hF2, rfl, hR2⟩ := p2
        have hD2 := hD1.keep hF2
        change J X _ mi2 mr2 3611 22072 262 _ [.int _, .int _]
        refine j_icmp_eq (tgt := 540) C d_law_262 (by decide) (fun c9 => ?_) (fun c9 => ?_)
        · refine j_iinc C d_law_540 rfl (nI_add (3 * k) 3) ?_
          refine j_goto (tgt := 18) C d_law_543 (by decide) ?_
          exact ih (k + 1) _ _ (joinM M (xs (3 * k + 1)) (xs (3 * k + 2))) (by omega) (by omega) hD2 hR2 (hM.join _ _) (by rw [nM_join]; omega)
        · exact absurd (rfl) c9
      · refine j_tabIn (tgt := 267) (off := 235) C d_law_32 (by decide) (by decide) rfl (by decide) ?_
        refine j_aload_n C d_law_267 rfl ?_
        refine j_aload_n C d_law_268 rfl ?_
        refine j_iload_n C d_law_269 rfl ?_
        refine j_iconst (v := 1) C d_law_270 (by decide) ?_
        refine j_iadd C d_law_271 ?_
        refine j_sld C hXs (3 * k + 1) d_law_272 (nI_1 _) (by omega) (by omega) ?_
        refine j_aload_n C d_law_273 rfl ?_
        refine j_iload_n C d_law_274 rfl ?_
        refine j_iconst (v := 2) C d_law_275 (by decide) ?_
        refine j_iadd C d_law_276 ?_
        refine j_sld C hXs (3 * k + 2) d_law_277 (nI_add _ 2) (by omega) (by omega) ?_
        refine j_callV C [.int (xs (3 * k + 1)), .int (xs (3 * k + 2))] d_law_278 ml_law_36 mv_Desk_part k_Desk_part ⟨_, _, rfl⟩ tdk (c_Desk_part _ _ _ hD hM (xs (3 * k + 1)) (xs (3 * k + 2))) (by decide) (by decide) rfl (Nat.le_of_ble_eq_true rfl) (Nat.le_of_ble_eq_true rfl) rfl (by simp [cat_rf, cat_int]) (fun v1 tt1 mi1 mr1 p1 => ?_)
        obtain ⟨rfl, hF1, rfl, hD1⟩ := p1
        have hR1 := hR.keep hF1
        change J X _ mi1 mr1 3611 22072 281 _ [.int _]
        refine j_aload_n C d_law_281 rfl ?_
        refine j_aload_n C d_law_282 rfl ?_
        refine j_iload_n C d_law_283 rfl ?_
        refine j_iconst (v := 1) C d_law_284 (by decide) ?_
        refine j_iadd C d_law_285 ?_
        refine j_sld C hXs (3 * k + 1) d_law_286 (nI_1 _) (by omega) (by omega) ?_
        refine j_aload_n C d_law_287 rfl ?_
        refine j_iload_n C d_law_288 rfl ?_
        refine j_iconst (v := 2) C d_law_289 (by decide) ?_
        refine j_iadd C d_law_290 ?_
        refine j_sld C hXs (3 * k + 2) d_law_291 (nI_add _ 2) (by omega) (by omega) ?_
        refine j_callV C [.int (xs (3 * k + 1)), .int (xs (3 * k + 2))] d_law_292 ml_law_39 mv_Model_part k_Model_part ⟨_, _, rfl⟩ tmd (c_Model_part _ _ _ hR1 hlen (xs (3 * k + 1)) (xs (3 * k + 2))) (by decide) (by decide) rfl (Nat.le_of_ble_eq_true rfl) (Nat.le_of_ble_eq_true rfl) rfl (by simp [cat_rf, cat_int]) (fun v2 tt2 mi2 mr2 p2 => ?_)
        obtain ⟨rfl, hF2, rfl, hR2⟩ := p2
        have hD2 := hD1.keep hF2
        change J X _ mi2 mr2 3611 22072 295 _ [.int _, .int _]
        refine j_icmp_eq (tgt := 540) C d_law_295 (by decide) (fun c9 => ?_) (fun c9 => ?_)
        · refine j_iinc C d_law_540 rfl (nI_add (3 * k) 3) ?_
          refine j_goto (tgt := 18) C d_law_543 (by decide) ?_
          exact ih (k + 1) _ _ (partM M (xs (3 * k + 1)) (xs (3 * k + 2))) (by omega) (by omega) hD2 hR2 (hM.part _ _) (by rw [nM_part]; omega)
        · exact absurd (rfl) c9
      · refine j_tabIn (tgt := 300) (off := 268) C d_law_32 (by decide) (by decide) rfl (by decide) ?_
        refine j_aload_n C d_law_300 rfl ?_
        refine j_aload_n C d_law_301 rfl ?_
        refine j_iload_n C d_law_302 rfl ?_
        refine j_iconst (v := 1) C d_law_303 (by decide) ?_
        refine j_iadd C d_law_304 ?_
        refine j_sld C hXs (3 * k + 1) d_law_305 (nI_1 _) (by omega) (by omega) ?_
        refine j_callV C [.int (xs (3 * k + 1))] d_law_306 ml_law_40 mv_Desk_heads k_Desk_heads ⟨_, _, rfl⟩ tdk (c_Desk_heads _ _ _ hD hM (xs (3 * k + 1))) (by decide) (by decide) rfl (Nat.le_of_ble_eq_true rfl) (Nat.le_of_ble_eq_true rfl) rfl (by simp [cat_rf, cat_int]) (fun v1 tt1 mi1 mr1 p1 => ?_)
        obtain ⟨rfl, rfl, rfl, r1, rfl, s1⟩ := p1
        change J X _ _ _ 3611 22072 309 _ [.int r1]
        refine j_aload_n C d_law_309 rfl ?_
        refine j_aload_n C d_law_310 rfl ?_
        refine j_iload_n C d_law_311 rfl ?_
        refine j_iconst (v := 1) C d_law_312 (by decide) ?_
        refine j_iadd C d_law_313 ?_
        refine j_sld C hXs (3 * k + 1) d_law_314 (nI_1 _) (by omega) (by omega) ?_
        refine j_callV C [.int (xs (3 * k + 1))] d_law_315 ml_law_43 mv_Model_heads k_Model_heads ⟨_, _, rfl⟩ tmd (c_Model_heads _ _ _ hR hM (xs (3 * k + 1))) (by decide) (by decide) rfl (Nat.le_of_ble_eq_true rfl) (Nat.le_of_ble_eq_true rfl) rfl (by simp [cat_rf, cat_int]) (fun v2 tt2 mi2 mr2 p2 => ?_)
        obtain ⟨rfl, rfl, rfl, r2, rfl, s2⟩ := p2
        change J X _ _ _ 3611 22072 318 _ [.int r2, .int r1]
        refine j_icmp_eq (tgt := 540) C d_law_318 (by decide) (fun c9 => ?_) (fun c9 => ?_)
        · refine j_iinc C d_law_540 rfl (nI_add (3 * k) 3) ?_
          refine j_goto (tgt := 18) C d_law_543 (by decide) ?_
          exact ih (k + 1) _ _ M (by omega) (by omega) hD hR hM (by omega)
        · exact absurd (hsS_u s1 s2) c9
      · refine j_tabIn (tgt := 323) (off := 291) C d_law_32 (by decide) (by decide) rfl (by decide) ?_
        refine j_aload_n C d_law_323 rfl ?_
        refine j_aload_n C d_law_324 rfl ?_
        refine j_iload_n C d_law_325 rfl ?_
        refine j_iconst (v := 1) C d_law_326 (by decide) ?_
        refine j_iadd C d_law_327 ?_
        refine j_sld C hXs (3 * k + 1) d_law_328 (nI_1 _) (by omega) (by omega) ?_
        refine j_aload_n C d_law_329 rfl ?_
        refine j_iload_n C d_law_330 rfl ?_
        refine j_iconst (v := 2) C d_law_331 (by decide) ?_
        refine j_iadd C d_law_332 ?_
        refine j_sld C hXs (3 * k + 2) d_law_333 (nI_add _ 2) (by omega) (by omega) ?_
        refine j_callV C [.int (xs (3 * k + 1)), .int (xs (3 * k + 2))] d_law_334 ml_law_44 mv_Desk_before k_Desk_before ⟨_, _, rfl⟩ tdk (c_Desk_before _ _ _ hD hM (xs (3 * k + 1)) (xs (3 * k + 2))) (by decide) (by decide) rfl (Nat.le_of_ble_eq_true rfl) (Nat.le_of_ble_eq_true rfl) rfl (by simp [cat_rf, cat_int]) (fun v1 tt1 mi1 mr1 p1 => ?_)
        obtain ⟨rfl, rfl, rfl, rfl⟩ := p1
        change J X _ _ _ 3611 22072 337 _ [.int _]
        refine j_aload_n C d_law_337 rfl ?_
        refine j_aload_n C d_law_338 rfl ?_
        refine j_iload_n C d_law_339 rfl ?_
        refine j_iconst (v := 1) C d_law_340 (by decide) ?_
        refine j_iadd C d_law_341 ?_
        refine j_sld C hXs (3 * k + 1) d_law_342 (nI_1 _) (by omega) (by omega) ?_
        refine j_aload_n C d_law_343 rfl ?_
        refine j_iload_n C d_law_344 rfl ?_
        refine j_iconst (v := 2) C d_law_345 (by decide) ?_
        refine j_iadd C d_law_346 ?_
        refine j_sld C hXs (3 * k + 2) d_law_347 (nI_add _ 2) (by omega) (by omega) ?_
        refine j_callV C [.int (xs (3 * k + 1)), .int (xs (3 * k + 2))] d_law_348 ml_law_47 mv_Model_before k_Model_before ⟨_, _, rfl⟩ tmd (c_Model_before _ _ _ hR hM (xs (3 * k + 1)) (xs (3 * k + 2))) (by decide) (by decide) rfl (Nat.le_of_ble_eq_true rfl) (Nat.le_of_ble_eq_true rfl) rfl (by simp [cat_rf, cat_int]) (fun v2 tt2 mi2 mr2 p2 => ?_)
        obtain ⟨rfl, rfl, rfl, rfl⟩ := p2
        change J X _ _ _ 3611 22072 351 _ [.int _, .int _]
        refine j_icmp_eq (tgt := 540) C d_law_351 (by decide) (fun c9 => ?_) (fun c9 => ?_)
        · refine j_iinc C d_law_540 rfl (nI_add (3 * k) 3) ?_
          refine j_goto (tgt := 18) C d_law_543 (by decide) ?_
          exact ih (k + 1) _ _ M (by omega) (by omega) hD hR hM (by omega)
        · exact absurd (rfl) c9
      · refine j_tabIn (tgt := 356) (off := 324) C d_law_32 (by decide) (by decide) rfl (by decide) ?_
        refine j_aload_n C d_law_356 rfl ?_
        refine j_callV C [] d_law_357 ml_law_48 mv_Desk_first k_Desk_first ⟨_, _, rfl⟩ tdk (c_Desk_first _ _ _ hD hM ) (by decide) (by decide) rfl (Nat.le_of_ble_eq_true rfl) (Nat.le_of_ble_eq_true rfl) rfl (by simp [cat_rf, cat_int]) (fun v1 tt1 mi1 mr1 p1 => ?_)
        obtain ⟨rfl, rfl, rfl, r1, rfl, s1⟩ := p1
        change J X _ _ _ 3611 22072 360 _ [.int r1]
        refine j_aload_n C d_law_360 rfl ?_
        refine j_callV C [] d_law_361 ml_law_52 mv_Model_first k_Model_first ⟨_, _, rfl⟩ tmd (c_Model_first _ _ _ hR hM ) (by decide) (by decide) rfl (Nat.le_of_ble_eq_true rfl) (Nat.le_of_ble_eq_true rfl) rfl (by simp [cat_rf, cat_int]) (fun v2 tt2 mi2 mr2 p2 => ?_)
        obtain ⟨rfl, rfl, rfl, r2, rfl, s2⟩ := p2
        change J X _ _ _ 3611 22072 364 _ [.int r2, .int r1]
        refine j_icmp_eq (tgt := 540) C d_law_364 (by decide) (fun c9 => ?_) (fun c9 => ?_)
        · refine j_iinc C d_law_540 rfl (nI_add (3 * k) 3) ?_
          refine j_goto (tgt := 18) C d_law_543 (by decide) ?_
          exact ih (k + 1) _ _ M (by omega) (by omega) hD hR hM (by omega)
        · exact absurd (bst_uniq s1 s2) c9
      · refine j_tabIn (tgt := 369) (off := 337) C d_law_32 (by decide) (by decide) rfl (by decide) ?_
        refine j_aload_n C d_law_369 rfl ?_
        refine j_aload_n C d_law_370 rfl ?_
        refine j_iload_n C d_law_371 rfl ?_
        refine j_iconst (v := 1) C d_law_372 (by decide) ?_
        refine j_iadd C d_law_373 ?_
        refine j_sld C hXs (3 * k + 1) d_law_374 (nI_1 _) (by omega) (by omega) ?_
        refine j_callV C [.int (xs (3 * k + 1))] d_law_375 ml_law_53 mv_Desk_next k_Desk_next ⟨_, _, rfl⟩ tdk (c_Desk_next _ _ _ hD hM (xs (3 * k + 1))) (by decide) (by decide) rfl (Nat.le_of_ble_eq_true rfl) (Nat.le_of_ble_eq_true rfl) rfl (by simp [cat_rf, cat_int]) (fun v1 tt1 mi1 mr1 p1 => ?_)
        obtain ⟨rfl, rfl, rfl, r1, rfl, s1⟩ := p1
        change J X _ _ _ 3611 22072 378 _ [.int r1]
        refine j_aload_n C d_law_378 rfl ?_
        refine j_aload_n C d_law_379 rfl ?_
        refine j_iload_n C d_law_380 rfl ?_
        refine j_iconst (v := 1) C d_law_381 (by decide) ?_
        refine j_iadd C d_law_382 ?_
        refine j_sld C hXs (3 * k + 1) d_law_383 (nI_1 _) (by omega) (by omega) ?_
        refine j_callV C [.int (xs (3 * k + 1))] d_law_384 ml_law_57 mv_Model_next k_Model_next ⟨_, _, rfl⟩ tmd (c_Model_next _ _ _ hR hM (xs (3 * k + 1))) (by decide) (by decide) rfl (Nat.le_of_ble_eq_true rfl) (Nat.le_of_ble_eq_true rfl) rfl (by simp [cat_rf, cat_int]) (fun v2 tt2 mi2 mr2 p2 => ?_)
        obtain ⟨rfl, rfl, rfl, r2, rfl, s2⟩ := p2
        change J X _ _ _ 3611 22072 387 _ [.int r2, .int r1]
        refine j_icmp_eq (tgt := 540) C d_law_387 (by decide) (fun c9 => ?_) (fun c9 => ?_)
        · refine j_iinc C d_law_540 rfl (nI_add (3 * k) 3) ?_
          refine j_goto (tgt := 18) C d_law_543 (by decide) ?_
          exact ih (k + 1) _ _ M (by omega) (by omega) hD hR hM (by omega)
        · exact absurd (nxS_u s1 s2) c9
      · refine j_tabIn (tgt := 392) (off := 360) C d_law_32 (by decide) (by decide) rfl (by decide) ?_
        refine j_aload_n C d_law_392 rfl ?_
        refine j_aload_n C d_law_393 rfl ?_
        refine j_iload_n C d_law_394 rfl ?_
        refine j_iconst (v := 1) C d_law_395 (by decide) ?_
        refine j_iadd C d_law_396 ?_
        refine j_sld C hXs (3 * k + 1) d_law_397 (nI_1 _) (by omega) (by omega) ?_
        refine j_callV C [.int (xs (3 * k + 1))] d_law_398 ml_law_58 mv_Desk_head k_Desk_head ⟨_, _, rfl⟩ tdk (c_Desk_head _ _ _ hD hM (xs (3 * k + 1))) (by decide) (by decide) rfl (Nat.le_of_ble_eq_true rfl) (Nat.le_of_ble_eq_true rfl) rfl (by simp [cat_rf, cat_int]) (fun v1 tt1 mi1 mr1 p1 => ?_)
        obtain ⟨rfl, rfl, rfl, r1, rfl, s1⟩ := p1
        change J X _ _ _ 3611 22072 401 _ [.int r1]
        refine j_aload_n C d_law_401 rfl ?_
        refine j_aload_n C d_law_402 rfl ?_
        refine j_iload_n C d_law_403 rfl ?_
        refine j_iconst (v := 1) C d_law_404 (by decide) ?_
        refine j_iadd C d_law_405 ?_
        refine j_sld C hXs (3 * k + 1) d_law_406 (nI_1 _) (by omega) (by omega) ?_
        refine j_callV C [.int (xs (3 * k + 1))] d_law_407 ml_law_61 mv_Model_head k_Model_head ⟨_, _, rfl⟩ tmd (c_Model_head _ _ _ hR hM (xs (3 * k + 1))) (by decide) (by decide) rfl (Nat.le_of_ble_eq_true rfl) (Nat.le_of_ble_eq_true rfl) rfl (by simp [cat_rf, cat_int]) (fun v2 tt2 mi2 mr2 p2 => ?_)
        obtain ⟨rfl, rfl, rfl, r2, rfl, s2⟩ := p2
        change J X _ _ _ 3611 22072 410 _ [.int r2, .int r1]
        refine j_icmp_eq (tgt := 540) C d_law_410 (by decide) (fun c9 => ?_) (fun c9 => ?_)
        · refine j_iinc C d_law_540 rfl (nI_add (3 * k) 3) ?_
          refine j_goto (tgt := 18) C d_law_543 (by decide) ?_
          exact ih (k + 1) _ _ M (by omega) (by omega) hD hR hM (by omega)
        · exact absurd (hdS_u s1 s2) c9
      · refine j_tabIn (tgt := 415) (off := 383) C d_law_32 (by decide) (by decide) rfl (by decide) ?_
        refine j_aload_n C d_law_415 rfl ?_
        refine j_aload_n C d_law_416 rfl ?_
        refine j_iload_n C d_law_417 rfl ?_
        refine j_iconst (v := 1) C d_law_418 (by decide) ?_
        refine j_iadd C d_law_419 ?_
        refine j_sld C hXs (3 * k + 1) d_law_420 (nI_1 _) (by omega) (by omega) ?_
        refine j_callV C [.int (xs (3 * k + 1))] d_law_421 ml_law_62 mv_Desk_last k_Desk_last ⟨_, _, rfl⟩ tdk (c_Desk_last _ _ _ hD hM (xs (3 * k + 1))) (by decide) (by decide) rfl (Nat.le_of_ble_eq_true rfl) (Nat.le_of_ble_eq_true rfl) rfl (by simp [cat_rf, cat_int]) (fun v1 tt1 mi1 mr1 p1 => ?_)
        obtain ⟨rfl, rfl, rfl, r1, rfl, s1⟩ := p1
        change J X _ _ _ 3611 22072 424 _ [.int r1]
        refine j_aload_n C d_law_424 rfl ?_
        refine j_aload_n C d_law_425 rfl ?_
        refine j_iload_n C d_law_426 rfl ?_
        refine j_iconst (v := 1) C d_law_427 (by decide) ?_
        refine j_iadd C d_law_428 ?_
        refine j_sld C hXs (3 * k + 1) d_law_429 (nI_1 _) (by omega) (by omega) ?_
        refine j_callV C [.int (xs (3 * k + 1))] d_law_430 ml_law_65 mv_Model_last k_Model_last ⟨_, _, rfl⟩ tmd (c_Model_last _ _ _ hR hM (xs (3 * k + 1))) (by decide) (by decide) rfl (Nat.le_of_ble_eq_true rfl) (Nat.le_of_ble_eq_true rfl) rfl (by simp [cat_rf, cat_int]) (fun v2 tt2 mi2 mr2 p2 => ?_)
        obtain ⟨rfl, rfl, rfl, r2, rfl, s2⟩ := p2
        change J X _ _ _ 3611 22072 433 _ [.int r2, .int r1]
        refine j_icmp_eq (tgt := 540) C d_law_433 (by decide) (fun c9 => ?_) (fun c9 => ?_)
        · refine j_iinc C d_law_540 rfl (nI_add (3 * k) 3) ?_
          refine j_goto (tgt := 18) C d_law_543 (by decide) ?_
          exact ih (k + 1) _ _ M (by omega) (by omega) hD hR hM (by omega)
        · exact absurd (hdS_u s1 s2) c9
      · refine j_tabIn (tgt := 438) (off := 406) C d_law_32 (by decide) (by decide) rfl (by decide) ?_
        refine j_aload_n C d_law_438 rfl ?_
        refine j_aload_n C d_law_439 rfl ?_
        refine j_iload_n C d_law_440 rfl ?_
        refine j_iconst (v := 1) C d_law_441 (by decide) ?_
        refine j_iadd C d_law_442 ?_
        refine j_sld C hXs (3 * k + 1) d_law_443 (nI_1 _) (by omega) (by omega) ?_
        refine j_aload_n C d_law_444 rfl ?_
        refine j_iload_n C d_law_445 rfl ?_
        refine j_iconst (v := 2) C d_law_446 (by decide) ?_
        refine j_iadd C d_law_447 ?_
        refine j_sld C hXs (3 * k + 2) d_law_448 (nI_add _ 2) (by omega) (by omega) ?_
        refine j_callV C [.int (xs (3 * k + 1)), .int (xs (3 * k + 2))] d_law_449 ml_law_66 mv_Desk_behind k_Desk_behind ⟨_, _, rfl⟩ tdk (c_Desk_behind _ _ _ hD hM (xs (3 * k + 1)) (xs (3 * k + 2))) (by decide) (by decide) rfl (Nat.le_of_ble_eq_true rfl) (Nat.le_of_ble_eq_true rfl) rfl (by simp [cat_rf, cat_int]) (fun v1 tt1 mi1 mr1 p1 => ?_)
        obtain ⟨rfl, rfl, rfl, r1, rfl, s1⟩ := p1
        change J X _ _ _ 3611 22072 452 _ [.int r1]
        refine j_aload_n C d_law_452 rfl ?_
        refine j_aload_n C d_law_453 rfl ?_
        refine j_iload_n C d_law_454 rfl ?_
        refine j_iconst (v := 1) C d_law_455 (by decide) ?_
        refine j_iadd C d_law_456 ?_
        refine j_sld C hXs (3 * k + 1) d_law_457 (nI_1 _) (by omega) (by omega) ?_
        refine j_aload_n C d_law_458 rfl ?_
        refine j_iload_n C d_law_459 rfl ?_
        refine j_iconst (v := 2) C d_law_460 (by decide) ?_
        refine j_iadd C d_law_461 ?_
        refine j_sld C hXs (3 * k + 2) d_law_462 (nI_add _ 2) (by omega) (by omega) ?_
        refine j_callV C [.int (xs (3 * k + 1)), .int (xs (3 * k + 2))] d_law_463 ml_law_69 mv_Model_behind k_Model_behind ⟨_, _, rfl⟩ tmd (c_Model_behind _ _ _ hR hM (xs (3 * k + 1)) (xs (3 * k + 2))) (by decide) (by decide) rfl (Nat.le_of_ble_eq_true rfl) (Nat.le_of_ble_eq_true rfl) rfl (by simp [cat_rf, cat_int]) (fun v2 tt2 mi2 mr2 p2 => ?_)
        obtain ⟨rfl, rfl, rfl, r2, rfl, s2⟩ := p2
        change J X _ _ _ 3611 22072 466 _ [.int r2, .int r1]
        refine j_icmp_eq (tgt := 540) C d_law_466 (by decide) (fun c9 => ?_) (fun c9 => ?_)
        · refine j_iinc C d_law_540 rfl (nI_add (3 * k) 3) ?_
          refine j_goto (tgt := 18) C d_law_543 (by decide) ?_
          exact ih (k + 1) _ _ M (by omega) (by omega) hD hR hM (by omega)
        · exact absurd (bhS_u s1 s2) c9
      · refine j_tabIn (tgt := 471) (off := 439) C d_law_32 (by decide) (by decide) rfl (by decide) ?_
        refine j_aload_n C d_law_471 rfl ?_
        refine j_aload_n C d_law_472 rfl ?_
        refine j_iload_n C d_law_473 rfl ?_
        refine j_iconst (v := 1) C d_law_474 (by decide) ?_
        refine j_iadd C d_law_475 ?_
        refine j_sld C hXs (3 * k + 1) d_law_476 (nI_1 _) (by omega) (by omega) ?_
        refine j_callV C [.int (xs (3 * k + 1))] d_law_477 ml_law_70 mv_Desk_size k_Desk_size ⟨_, _, rfl⟩ tdk (c_Desk_size _ _ _ hD hM (xs (3 * k + 1))) (by decide) (by decide) rfl (Nat.le_of_ble_eq_true rfl) (Nat.le_of_ble_eq_true rfl) rfl (by simp [cat_rf, cat_int]) (fun v1 tt1 mi1 mr1 p1 => ?_)
        obtain ⟨rfl, rfl, rfl, rfl⟩ := p1
        change J X _ _ _ 3611 22072 480 _ [.int _]
        refine j_aload_n C d_law_480 rfl ?_
        refine j_aload_n C d_law_481 rfl ?_
        refine j_iload_n C d_law_482 rfl ?_
        refine j_iconst (v := 1) C d_law_483 (by decide) ?_
        refine j_iadd C d_law_484 ?_
        refine j_sld C hXs (3 * k + 1) d_law_485 (nI_1 _) (by omega) (by omega) ?_
        refine j_callV C [.int (xs (3 * k + 1))] d_law_486 ml_law_73 mv_Model_size k_Model_size ⟨_, _, rfl⟩ tmd (c_Model_size _ _ _ hR hM (xs (3 * k + 1))) (by decide) (by decide) rfl (Nat.le_of_ble_eq_true rfl) (Nat.le_of_ble_eq_true rfl) rfl (by simp [cat_rf, cat_int]) (fun v2 tt2 mi2 mr2 p2 => ?_)
        obtain ⟨rfl, rfl, rfl, rfl⟩ := p2
        change J X _ _ _ 3611 22072 489 _ [.int _, .int _]
        refine j_icmp_eq (tgt := 540) C d_law_489 (by decide) (fun c9 => ?_) (fun c9 => ?_)
        · refine j_iinc C d_law_540 rfl (nI_add (3 * k) 3) ?_
          refine j_goto (tgt := 18) C d_law_543 (by decide) ?_
          exact ih (k + 1) _ _ M (by omega) (by omega) hD hR hM (by omega)
        · exact absurd (rfl) c9
      · refine j_tabIn (tgt := 494) (off := 462) C d_law_32 (by decide) (by decide) rfl (by decide) ?_
        refine j_aload_n C d_law_494 rfl ?_
        refine j_aload_n C d_law_495 rfl ?_
        refine j_iload_n C d_law_496 rfl ?_
        refine j_iconst (v := 1) C d_law_497 (by decide) ?_
        refine j_iadd C d_law_498 ?_
        refine j_sld C hXs (3 * k + 1) d_law_499 (nI_1 _) (by omega) (by omega) ?_
        refine j_aload_n C d_law_500 rfl ?_
        refine j_iload_n C d_law_501 rfl ?_
        refine j_iconst (v := 2) C d_law_502 (by decide) ?_
        refine j_iadd C d_law_503 ?_
        refine j_sld C hXs (3 * k + 2) d_law_504 (nI_add _ 2) (by omega) (by omega) ?_
        refine j_callV C [.int (xs (3 * k + 1)), .int (xs (3 * k + 2))] d_law_505 ml_law_74 mv_Desk_look k_Desk_look ⟨_, _, rfl⟩ tdk (c_Desk_look _ _ _ hD hM (xs (3 * k + 1)) (xs (3 * k + 2))) (by decide) (by decide) rfl (Nat.le_of_ble_eq_true rfl) (Nat.le_of_ble_eq_true rfl) rfl (by simp [cat_rf, cat_int]) (fun v1 tt1 mi1 mr1 p1 => ?_)
        obtain ⟨rfl, rfl, rfl, rfl⟩ := p1
        change J X _ _ _ 3611 22072 508 _ [.int _]
        refine j_aload_n C d_law_508 rfl ?_
        refine j_aload_n C d_law_509 rfl ?_
        refine j_iload_n C d_law_510 rfl ?_
        refine j_iconst (v := 1) C d_law_511 (by decide) ?_
        refine j_iadd C d_law_512 ?_
        refine j_sld C hXs (3 * k + 1) d_law_513 (nI_1 _) (by omega) (by omega) ?_
        refine j_aload_n C d_law_514 rfl ?_
        refine j_iload_n C d_law_515 rfl ?_
        refine j_iconst (v := 2) C d_law_516 (by decide) ?_
        refine j_iadd C d_law_517 ?_
        refine j_sld C hXs (3 * k + 2) d_law_518 (nI_add _ 2) (by omega) (by omega) ?_
        refine j_callV C [.int (xs (3 * k + 1)), .int (xs (3 * k + 2))] d_law_519 ml_law_77 mv_Model_look k_Model_look ⟨_, _, rfl⟩ tmd (c_Model_look _ _ _ hR hM (xs (3 * k + 1)) (xs (3 * k + 2))) (by decide) (by decide) rfl (Nat.le_of_ble_eq_true rfl) (Nat.le_of_ble_eq_true rfl) rfl (by simp [cat_rf, cat_int]) (fun v2 tt2 mi2 mr2 p2 => ?_)
        obtain ⟨rfl, rfl, rfl, rfl⟩ := p2
        change J X _ _ _ 3611 22072 522 _ [.int _, .int _]
        refine j_icmp_eq (tgt := 540) C d_law_522 (by decide) (fun c9 => ?_) (fun c9 => ?_)
        · refine j_iinc C d_law_540 rfl (nI_add (3 * k) 3) ?_
          refine j_goto (tgt := 18) C d_law_543 (by decide) ?_
          exact ih (k + 1) _ _ M (by omega) (by omega) hD hR hM (by omega)
        · exact absurd (rfl) c9
      · refine j_tabIn (tgt := 527) (off := 495) C d_law_32 (by decide) (by decide) rfl (by decide) ?_
        refine j_aload_n C d_law_527 rfl ?_
        refine j_callV C [] d_law_528 ml_law_78 mv_Desk_lines k_Desk_lines ⟨_, _, rfl⟩ tdk (c_Desk_lines _ _ _ hD hM ) (by decide) (by decide) rfl (Nat.le_of_ble_eq_true rfl) (Nat.le_of_ble_eq_true rfl) rfl (by simp [cat_rf, cat_int]) (fun v1 tt1 mi1 mr1 p1 => ?_)
        obtain ⟨rfl, rfl, rfl, r1, rfl, s1⟩ := p1
        change J X _ _ _ 3611 22072 531 _ [.int r1]
        refine j_aload_n C d_law_531 rfl ?_
        refine j_callV C [] d_law_532 ml_law_81 mv_Model_lines k_Model_lines ⟨_, _, rfl⟩ tmd (c_Model_lines _ _ _ hR hM ) (by decide) (by decide) rfl (Nat.le_of_ble_eq_true rfl) (Nat.le_of_ble_eq_true rfl) rfl (by simp [cat_rf, cat_int]) (fun v2 tt2 mi2 mr2 p2 => ?_)
        obtain ⟨rfl, rfl, rfl, r2, rfl, s2⟩ := p2
        change J X _ _ _ 3611 22072 535 _ [.int r2, .int r1]
        refine j_icmp_eq (tgt := 540) C d_law_535 (by decide) (fun c9 => ?_) (fun c9 => ?_)
        · refine j_iinc C d_law_540 rfl (nI_add (3 * k) 3) ?_
          refine j_goto (tgt := 18) C d_law_543 (by decide) ?_
          exact ih (k + 1) _ _ M (by omega) (by omega) hD hR hM (by omega)
        · exact absurd (lnS_uniq s1 s2) c9
end
section
/-! THE LAW FROM ITS ENTRY -/
theorem Dk.ext {tt tt' : jT} {mi : jI} {mr : jR} {dk od ia ls ch : Nat} {it ma io : Nat → Nat} {M : Mt} (h : Dk tt mi mr dk od ia ls ch it ma io M) (he : Ext tt tt') : Dk tt' mi mr dk od ia ls ch it ma io M := by
  obtain ⟨ms, OA, Cs, F, LM, hS, hV, hO, hL⟩ := h
  refine ⟨ms, OA, Cs, F, LM, ⟨⟨he _ _ hS.1.1, hS.1.2.1, he _ _ hS.1.2.2.1, hS.1.2.2.2.1, hS.1.2.2.2.2.1, he _ _ hS.1.2.2.2.2.2⟩, fun i hi => ?_⟩, hV, hO, ?_⟩
  · obtain ⟨b1, b2, b3, b4, b5, b6, b7, b8⟩ := hS.2 i hi
    exact ⟨b1, he _ _ b2, b3, b4, he _ _ b5, b6, b7, fun m hm => ⟨he _ _ (b8 m hm).1, (b8 m hm).2⟩⟩
  · obtain ⟨⟨a1, a2, a3⟩, b, c, d1, d2, d3, f, g, i, j, k, n, o⟩ := hL
    exact ⟨⟨he _ _ a1, a2, he _ _ a3⟩, b, c, d1, d2, d3, fun q hq => ⟨he _ _ (f q hq).1, (f q hq).2⟩, g, i, j, k, n, fun m hm => ⟨he _ _ (o m hm).1, (o m hm).2.1, he _ _ (o m hm).2.2.1, (o m hm).2.2.2⟩⟩
theorem Old.D {tt : jT} {mi mi' : jI} {mr mr' : jR} (h : ∀ b q, tt b = some q → mi' b = mi b ∧ mr' b = mr b) : FrD tt mi mr mi' mr' := fun a q ha _ => h a q ha
set_option maxHeartbeats 4000000 in
set_option maxRecDepth 100000 in
theorem law_start {X : jX} {b L : Nat} {xs : Nat → Int32} (hL : L ≤ 1536) (C : jok X code "OrderDeskLaw" 4 7 973907 6180526) (E : jlaw X b) (hXs : jscr X b L xs) : J X (fun _ => none) (fun _ _ => 0) (fun _ _ => none) 0 0 0 [some (va_rf (some b)), none, none, none] [] := by
  refine j_new C d_law_0 cl_Desk rfl cn_law_7 in_Desk ni_Desk df_Desk (Nat.le_of_ble_eq_true rfl) (Nat.le_of_ble_eq_true rfl) (fun q0 hq0 => ?_)
  refine j_dup C d_law_3 (by first | rfl | exact cat_rf _) ?_
  refine j_callI C [] d_law_4 ml_law_9 mi_Desk_init rfl k_Desk_init (c_Desk_init _ _ _ (va_up_self _ _ _)) (by decide) (by decide) rfl (Nat.le_of_ble_eq_true rfl) (Nat.le_of_ble_eq_true rfl) rfl (by simp [cat_rf, cat_int]) (fun v4 tt4 mi4 mr4 p4 => ?_)
  obtain ⟨rfl, e1, e2, od, ia, ls, ch, it, ma, io, hD⟩ := p4
  change J X tt4 mi4 mr4 3605 19666 7 _ [va_rf (some q0)]
  refine j_astore_n C d_law_7 (Nat.le_of_ble_eq_true rfl) ?_
  refine j_new C d_law_8 cl_Model rfl cn_law_10 in_Model ni_Model df_Model (Nat.le_of_ble_eq_true rfl) (Nat.le_of_ble_eq_true rfl) (fun q8 hq8 => ?_)
  refine j_dup C d_law_11 (by first | rfl | exact cat_rf _) ?_
  refine j_callI C [] d_law_12 ml_law_12 mi_Model_init rfl k_Model_init (c_Model_init _ _ _ (va_up_self _ _ _) (by rw [va_up_self])) (by decide) (by decide) rfl (Nat.le_of_ble_eq_true rfl) (Nat.le_of_ble_eq_true rfl) rfl (by simp [cat_rf, cat_int]) (fun v12 tt12 mi12 mr12 p12 => ?_)
  obtain ⟨rfl, f1, f2, aq, ap, aa, am, ak, hR⟩ := p12
  change J X tt12 mi12 mr12 3611 22072 15 _ [va_rf (some q8)]
  refine j_astore_n C d_law_15 (Nat.le_of_ble_eq_true rfl) ?_
  refine j_iconst (v := 0) C d_law_16 (by decide) ?_
  refine j_istore_n C d_law_17 (Nat.le_of_ble_eq_true rfl) ?_
  have hF : FrD tt4 mi4 mr4 mi12 mr12 := Old.D (fun b0 q hb0 => by
    have hbq := fresh_ne hb0 hq8
    have := f2 b0 q (Ext.new hq8 _ _ hb0) hbq
    rw [va_up_ne _ _ hbq, va_up_ne _ _ hbq] at this
    exact this)
  have hD2 := (hD.keep hF).ext ((Ext.new hq8).trans f1)
  exact law_loop hL C E hXs (L + 1) 0 mi12 mr12 M0 (by omega) (by omega) hD2 hR MI_0 (Nat.le_refl _)
set_option maxHeartbeats 4000000 in
set_option maxRecDepth 100000 in
theorem whole_start {p : Program} {e : Env} {s : State} {m : MethodId} {below : List Frame} {meth : Method} {c : Code} (l : Launch) {b L : Nat} {xs : Nat → Int32} (hL : L ≤ 1536) (C0 : lw_At p s m meth c b L xs) : W p l e room_1 s m #[Value.ref b] below meth c s.heap [] 0 0 (lw_Z below #[Value.ref b] s) (entryFrame m ([Value.ref b] : List Value).toArray 4) := by
  obtain ⟨hx, hb, hr, hml, hown, hts, hX, hbl, hlocks, hgv⟩ := id C0
  have htg : ∀ w ∈ gw, w.before #[Value.ref b] s = true := fun w hw => hts w (gw_tbl w hw)
  have htt : ∀ w ∈ tables_1, w.before #[Value.ref b] s = true := fun w hw => hts w (List.mem_append_right _ hw)
  obtain ⟨c0, i0, k0⟩ := u_known (C := R_Item) (T := F_Item) (N := 8) (n := 8) htg cl_Item_w (htg _ in_Item)
  obtain ⟨c1, i1, k1⟩ := u_known (C := R_Member) (T := F_Member) (N := 5) (n := 5) htg cl_Member_w (htg _ in_Member)
  obtain ⟨c2, i2, k2⟩ := u_known (C := R_Line) (T := F_Line) (N := 5) (n := 5) htg cl_Line_w (htg _ in_Line)
  obtain ⟨c3, i3, k3⟩ := u_known (C := R_Lines) (T := F_Lines) (N := 3) (n := 3) htg cl_Lines_w (htg _ in_Lines)
  obtain ⟨c4, i4, k4⟩ := u_known (C := R_Orders) (T := F_Orders) (N := 6) (n := 6) htg cl_Orders_w (htg _ in_Orders)
  obtain ⟨c5, i5, k5⟩ := u_known (C := R_Desk) (T := F_Desk) (N := 1) (n := 1) htg cl_Desk_w (htg _ in_Desk)
  obtain ⟨c6, i6, k6⟩ := u_known (C := R_Model) (T := F_Model) (N := 6) (n := 6) htg cl_Model_w (htg _ in_Model)
  obtain ⟨p0, a0, g0, s01, s02, s03, s04, s05⟩ := Cond.arrayOver_spec (htt _ ao_Item)
  obtain ⟨p1, a1, g1, s11, s12, s13, s14, s15⟩ := Cond.arrayOver_spec (htt _ ao_Member)
  obtain ⟨p2, a2, g2, s21, s22, s23, s24, s25⟩ := Cond.arrayOver_spec (htt _ ao_Line)
  obtain ⟨a3, g3, p3, s31, s32, s33⟩ := Cond.arrayClass_spec (htg _ ac_int)
  obtain ⟨a4, g4, p4, s41, s42, s43⟩ := Cond.arrayClass_spec (htg _ ac_boolean)
  obtain ⟨D, hD1, hD2⟩ : ∃ D : jD, (∀ (k : Nat) (q : vw_C), classes[k]? = some q → u_Kn s q.1 q.2.1 q.2.2 (D.1.1 k) (D.1.2 k)) ∧ (D.2 0 = a0 ∧ D.2 1 = a1 ∧ D.2 2 = a2 ∧ D.2 3 = a3 ∧ D.2 4 = a4) := by
    refine ⟨((fun k => if k = 0 then c0 else if k = 1 then c1 else if k = 2 then c2 else if k = 3 then c3 else if k = 4 then c4 else if k = 5 then c5 else c6, fun k => if k = 0 then i0 else if k = 1 then i1 else if k = 2 then i2 else if k = 3 then i3 else if k = 4 then i4 else if k = 5 then i5 else i6), fun k => if k = 0 then a0 else if k = 1 then a1 else if k = 2 then a2 else if k = 3 then a3 else a4), fun k q hq => ?_, rfl, rfl, rfl, rfl, rfl⟩
    match k, hq with
    | 0, hq => cases hq; exact k0
    | 1, hq => cases hq; exact k1
    | 2, hq => cases hq; exact k2
    | 3, hq => cases hq; exact k3
    | 4, hq => cases hq; exact k4
    | 5, hq => cases hq; exact k5
    | 6, hq => cases hq; exact k6
    | k + 7, hq => simp [classes] at hq
  obtain ⟨d0, d1, d2, d3, d4⟩ := hD2
  have hK : jK D s := by
    refine ⟨⟨hD1, fun k q hq => ?_⟩, fun w hw hn => va_Nw.of (jnest_on hn) (htt w hw), va_AO.of (htt _ ao_Item), va_AO.of (htt _ ao_Member), va_AO.of (htt _ ao_Line)⟩
    match k, hq with
    | 0, hq => cases hq; rw [d0]; exact ⟨fun N z => ⟨(fun k h => by cases h), g0, s03, p0, s04⟩, g0, p0, s03, s04, s01, s05⟩
    | 1, hq => cases hq; rw [d1]; exact ⟨fun N z => ⟨(fun k h => by cases h), g1, s13, p1, s14⟩, g1, p1, s13, s14, s11, s15⟩
    | 2, hq => cases hq; rw [d2]; exact ⟨fun N z => ⟨(fun k h => by cases h), g2, s23, p2, s24⟩, g2, p2, s23, s24, s21, s25⟩
    | 3, hq => cases hq; rw [d3]; exact ⟨fun N z => ⟨(fun k h => by cases h), g3, s32, p3, s33⟩, s31⟩
    | 4, hq => cases hq; rw [d4]; exact ⟨fun N z => ⟨(fun k h => by cases h), g4, s42, p4, s43⟩, s41⟩
    | k + 5, hq => simp [tysD] at hq
  have hC : jok (p, l, e, room_1, s, m, #[Value.ref b], below, meth, c, lw_Z below #[Value.ref b] s, D, s.heap.size) code "OrderDeskLaw" 4 7 973907 6180526 := ⟨hx, hb, hown, htg, hml, hlocks, hK, by decide, by decide, rfl, rfl, Nat.le_refl _⟩
  have h := law_start hL hC ⟨rfl, rfl, rfl, hr, rfl⟩ ⟨hX, hbl, rfl⟩
  rw [lg_entry_eq]
  exact h s.heap [] _ ⟨Nat.le_refl _, (fun a q z => absurd z (by simp)), (fun a q k q' b' z => absurd z (by simp))⟩ va_S.rf (jL_entry [Value.ref b] (fun v hv => by rw [List.mem_singleton] at hv; rw [hv]; rfl) (Nat.le_of_ble_eq_true rfl))
end
section
set_option maxHeartbeats 4000000 in
theorem lw_walk (l : Launch) (b : Addr) (xs : List Int32) : MetFree l x (headSpec (Jvm.Cond.code x code maxLocals ret :: tables_1) room_1) (lw_P b xs) (fun _ _ _ _ _ => True) lw_Q := by
  refine MetFree.of_bodyS (code := code) (maxLocals := maxLocals) (ret := ret) (by decide) ?_ ?_
  · intro args s m h hn
    obtain ⟨meth, c, h1, h2, h3, h4, h5, h6, -, -⟩ := Cond.code_spec hn (atoms_spec (ws := Jvm.Cond.code x code maxLocals ret :: tables_1) h _ List.mem_cons_self)
    exact ⟨meth, c, h1, h2, h3, h4, h5, h6⟩
  · intro p e s m args below meth c s₁ B hml0 hP _
    obtain ⟨rfl, hx, hbd, hgv⟩ := hP
    obtain ⟨scr, harrAt, hlist, hof, hsmall⟩ := hx
    obtain ⟨hcb, hkn, -, -⟩ := State.arrayAt?_spec harrAt
    have hown : s.vm.findClass R_law = some m.cls := findClass_of_methodNamed B.named
    have hts0 : ∀ c ∈ (Jvm.Cond.code x code maxLocals ret :: tables_1), c.before #[Value.ref b] s = true := atoms_spec (ws := Jvm.Cond.code x code maxLocals ret :: tables_1) B.pre
    have hts : ∀ w ∈ lw_tbl, w.before #[Value.ref b] s = true := k2_hts_sels lw_privs (fun w hw => hts0 w (List.mem_cons_of_mem _ hw)) lw_privs_ok
    have hml : c.maxLocals = 4 := B.maxLocals_eq (hts0 _ List.mem_cons_self)
    have X₀ : Stand p l e room_1 s m #[Value.ref b] below meth c s₁ [] 0 0 := Stand.of_body B
    have hh0 : s₁.heap = s.heap := by rw [B.state]; rfl
    have hsz : scr.slots.size = xs.length := by rw [← Array.length_toList, hlist, List.length_map]
    have hval : ∀ j : Nat, j < xs.length → scr.slots[j]? = some (.int (xs.getD j 0)) := fun j hj => by
      rw [← Array.getElem?_toList, hlist]
      simp [hj]
    have hbl : b < s.heap.size := (Array.getElem?_eq_some_iff.mp hcb).1
    have hX : va_X b xs.length (fun j => xs.getD j 0) s s.heap := ⟨scr, hcb, hof, hkn, hsz, hval⟩
    have K : W p l e room_1 s m #[Value.ref b] below meth c s₁.heap [] 0 0 (lw_Z below #[Value.ref b] s) (entryFrame m ([Value.ref b] : List Value).toArray 4) := by
      rw [hh0]
      exact whole_start l hbd ⟨B.exec, B.bytes, B.returns, hml, hown, hts, hX, hbl, B.notSynchronized, hgv⟩
    obtain ⟨t, a1, o, b1, b2, b3⟩ := K s₁ rfl X₀
    exact ⟨t, o, a1, b1, b2, b3⟩
theorem lw_pre_spec {args : Array Value} {s : State} (h : (Jvm.Cond.and given_1 narrow_1).before args s = true) (hr : rest_1_c.before args s = true) : ∃ (b : Addr) (xs : List Int32), lw_P b xs args s := by
  have hs := flat_of_before _ h
  have hq := flat_of_before _ hr
  have hc : (Cond.count 1).before args s = true := hs _ (by decide +kernel)
  have harr : (Cond.arrayOf (.arg 0) .int).before args s = true := hs _ (by decide +kernel)
  have hle : (Cond.le (.length (.arg 0)) (.int 1536)).before args s = true := hs _ (by decide +kernel)
  have hlen : (Cond.isInt (.length (.arg 0))).before args s = true := hq _ (by decide +kernel)
  have hall : (Cond.all (.arg 0) (.isInt (.elem (.arg 0) (.index 0)))).before args s = true := hq _ (by decide +kernel)
  obtain ⟨b, xs, hb, hx⟩ := State.ints_of_pre rfl harr hlen hall
  have hsm : xs.length < 2 ^ 31 := hx.choose_spec.2.2.2
  have hev : (Term.length (.arg 0)).eval args s none [] s = some (.int xs.length.toInt32) := hx.length_eval hb
  have hv := Cond.le_ints hev (show (Term.int 1536).eval args s none [] s = some (.int 1536) from rfl)
  have hd : xs.length.toInt32 ≤ 1536 := by
    simpa [Cond.before, Cond.holds, hv] using hle
  have hN : xs.length ≤ 1536 := (Int32.ofNat_le_ofNat hsm (by decide)).mp (show Int32.ofNat xs.length ≤ Int32.ofNat 1536 from hd)
  exact ⟨b, xs, Cond.one_arg hc (show args[0]? = some (.ref b) from hb), hx, hN, h⟩
theorem lw_comes (l : Launch) : Comes l x (Jvm.Cond.code x code maxLocals ret :: tables_1) room_1 (fun tb e args s => Calls_1 tb e args s ∧ rest_1 tb e args s ∧ Pre_1 tb e args s)
    (fun _ _ args s o t => lw_Q args s o t) := by
  intro p e ha hc hk s m args below hf hfit hheap happ hpre
  obtain ⟨b, xs, hP⟩ := lw_pre_spec hpre.2.2 hpre.2.1
  obtain ⟨k, o, h1, h2, h3, hQ⟩ := lw_walk l b xs p e ha hc hk s m args below hf ((Spec.applies_iff_loose hf).mp happ).1 hP trivial
  exact ⟨k, o, h1, h2, h3, hQ⟩
theorem lw_frame {s t : State} {o : Outcome} {args : Array Value} (h : Framed s o t [] 973907 6180526) :
    Framed s o t (fieldLocs frame_1_writes args s ++ arrayLocs frame_1_arrays args s ++ staticLocs frame_1_statics s) 973907 6180526 := h
theorem lw_limb (L : Cond) (hL : ∀ (args : Array Value) (s t : State), L.after args s (.returned (some (.int 1))) t = true) :
    ArmFor flags0 classFile x code maxLocals ret World_1 tables_1 room_1 Calls_1 rest_1 Pre_1
      (fun tb e a s o t => postC L tb e a s o t ∧ Framed s o t (fieldLocs frame_1_writes a s ++ arrayLocs frame_1_arrays a s ++ staticLocs frame_1_statics s) 973907 6180526) := by
  intro l _ _ _ p e ha hc hk s m args below hf hfit hheap happ hpre
  obtain ⟨k, o, h1, h2, h3, rfl, hF⟩ := lw_comes l p e ha hc hk s m args below hf hfit hheap happ hpre
  exact ⟨k, _, h1, h2, h3, hL args s _, lw_frame hF⟩
theorem i_vc : Claimed_1_1 ∧ Claimed_1_2 := ⟨lw_limb limb_1_1 (fun args s t => by simp [limb_1_1, Cond.after, Cond.holds, Cond.value]), lw_limb limb_1_2 (fun args s t => Cond.after_iff.mpr (by
  first | (rw [show limb_1_2 = Cond.eq .result (.int 1) from rfl, Cond.eq_ints (x := 1) (y := 1) rfl rfl]; simp; done) | (simp [limb_1_2, Cond.value, Term.eval]; done)))⟩
end
