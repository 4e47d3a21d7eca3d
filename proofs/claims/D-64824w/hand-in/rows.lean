section
-- ===== PART A: goes FIRST, ahead of the names: the tables' words, and 'selects' of the private methods out of them =====
/-- a private method of a class that the tables say can be made, by its rows of tables_1 -/
def lw_okq (q : MethodName × Nat) : Prop := (q.1.cls ≠ "java/lang/invoke/MethodHandle" ∧ q.1.cls ≠ "java/lang/invoke/VarHandle") ∧ Cond.instantiable q.1.cls q.2 ∈ tables_1 ∧ Cond.privateMethod q.1 ∈ tables_1 ∧ Cond.instanceMethod q.1 ∈ tables_1
theorem lw_p0 : lw_okq (⟨"RouteTrie", "make", "(III)I"⟩, 8) := ⟨⟨by decide +kernel, by decide +kernel⟩, List.mem_of_getElem? (i := 6) (by decide +kernel), List.mem_of_getElem? (i := 18) (by decide +kernel), List.mem_of_getElem? (i := 19) (by decide +kernel)⟩
theorem lw_p1 : lw_okq (⟨"RouteTrie", "find", "(II)I"⟩, 8) := ⟨⟨by decide +kernel, by decide +kernel⟩, List.mem_of_getElem? (i := 6) (by decide +kernel), List.mem_of_getElem? (i := 59) (by decide +kernel), List.mem_of_getElem? (i := 60) (by decide +kernel)⟩
theorem lw_p2 : lw_okq (⟨"RouteTrie", "child", "(II)I"⟩, 8) := ⟨⟨by decide +kernel, by decide +kernel⟩, List.mem_of_getElem? (i := 6) (by decide +kernel), List.mem_of_getElem? (i := 73) (by decide +kernel), List.mem_of_getElem? (i := 74) (by decide +kernel)⟩
theorem lw_p3 : lw_okq (⟨"RouteTrie", "enter", "(III)V"⟩, 8) := ⟨⟨by decide +kernel, by decide +kernel⟩, List.mem_of_getElem? (i := 6) (by decide +kernel), List.mem_of_getElem? (i := 80) (by decide +kernel), List.mem_of_getElem? (i := 81) (by decide +kernel)⟩
theorem lw_p4 : lw_okq (⟨"RouteTrie", "hang", "(III)V"⟩, 8) := ⟨⟨by decide +kernel, by decide +kernel⟩, List.mem_of_getElem? (i := 6) (by decide +kernel), List.mem_of_getElem? (i := 84) (by decide +kernel), List.mem_of_getElem? (i := 85) (by decide +kernel)⟩
theorem lw_p5 : lw_okq (⟨"RouteTrie", "tell", "(III)V"⟩, 8) := ⟨⟨by decide +kernel, by decide +kernel⟩, List.mem_of_getElem? (i := 6) (by decide +kernel), List.mem_of_getElem? (i := 88) (by decide +kernel), List.mem_of_getElem? (i := 89) (by decide +kernel)⟩
theorem lw_p6 : lw_okq (⟨"RouteTrie", "settle", "(I)V"⟩, 8) := ⟨⟨by decide +kernel, by decide +kernel⟩, List.mem_of_getElem? (i := 6) (by decide +kernel), List.mem_of_getElem? (i := 96) (by decide +kernel), List.mem_of_getElem? (i := 97) (by decide +kernel)⟩
theorem lw_p7 : lw_okq (⟨"RouteTrie", "drop", "(I)V"⟩, 8) := ⟨⟨by decide +kernel, by decide +kernel⟩, List.mem_of_getElem? (i := 6) (by decide +kernel), List.mem_of_getElem? (i := 100) (by decide +kernel), List.mem_of_getElem? (i := 101) (by decide +kernel)⟩
theorem lw_p8 : lw_okq (⟨"RouteTrie", "match", "(I)I"⟩, 8) := ⟨⟨by decide +kernel, by decide +kernel⟩, List.mem_of_getElem? (i := 6) (by decide +kernel), List.mem_of_getElem? (i := 108) (by decide +kernel), List.mem_of_getElem? (i := 109) (by decide +kernel)⟩
theorem lw_p9 : lw_okq (⟨"RouteTrieModel", "find", "(II)I"⟩, 8) := ⟨⟨by decide +kernel, by decide +kernel⟩, List.mem_of_getElem? (i := 140) (by decide +kernel), List.mem_of_getElem? (i := 185) (by decide +kernel), List.mem_of_getElem? (i := 186) (by decide +kernel)⟩
theorem lw_p10 : lw_okq (⟨"RouteTrieModel", "isBefore", "(III)Z"⟩, 8) := ⟨⟨by decide +kernel, by decide +kernel⟩, List.mem_of_getElem? (i := 140) (by decide +kernel), List.mem_of_getElem? (i := 189) (by decide +kernel), List.mem_of_getElem? (i := 190) (by decide +kernel)⟩
theorem lw_p11 : lw_okq (⟨"RouteTrieModel", "longest", "(I)I"⟩, 8) := ⟨⟨by decide +kernel, by decide +kernel⟩, List.mem_of_getElem? (i := 140) (by decide +kernel), List.mem_of_getElem? (i := 202) (by decide +kernel), List.mem_of_getElem? (i := 203) (by decide +kernel)⟩
theorem lw_p12 : lw_okq (⟨"RouteTrieModel", "findNodes", "()V"⟩, 8) := ⟨⟨by decide +kernel, by decide +kernel⟩, List.mem_of_getElem? (i := 140) (by decide +kernel), List.mem_of_getElem? (i := 233) (by decide +kernel), List.mem_of_getElem? (i := 234) (by decide +kernel)⟩
theorem lw_p13 : lw_okq (⟨"RouteTrieModel", "add", "(II)V"⟩, 8) := ⟨⟨by decide +kernel, by decide +kernel⟩, List.mem_of_getElem? (i := 140) (by decide +kernel), List.mem_of_getElem? (i := 237) (by decide +kernel), List.mem_of_getElem? (i := 238) (by decide +kernel)⟩
def lw_privs_1 : List (MethodName × Nat) := [(⟨"RouteTrie", "make", "(III)I"⟩, 8), (⟨"RouteTrie", "find", "(II)I"⟩, 8), (⟨"RouteTrie", "child", "(II)I"⟩, 8), (⟨"RouteTrie", "enter", "(III)V"⟩, 8), (⟨"RouteTrie", "hang", "(III)V"⟩, 8), (⟨"RouteTrie", "tell", "(III)V"⟩, 8), (⟨"RouteTrie", "settle", "(I)V"⟩, 8), (⟨"RouteTrie", "drop", "(I)V"⟩, 8), (⟨"RouteTrie", "match", "(I)I"⟩, 8), (⟨"RouteTrieModel", "find", "(II)I"⟩, 8), (⟨"RouteTrieModel", "isBefore", "(III)Z"⟩, 8), (⟨"RouteTrieModel", "longest", "(I)I"⟩, 8), (⟨"RouteTrieModel", "findNodes", "()V"⟩, 8), (⟨"RouteTrieModel", "add", "(II)V"⟩, 8)]
theorem lw_r1 : ∀ q ∈ lw_privs_1, lw_okq q := List.forall_mem_cons.mpr ⟨lw_p0, List.forall_mem_cons.mpr ⟨lw_p1, List.forall_mem_cons.mpr ⟨lw_p2, List.forall_mem_cons.mpr ⟨lw_p3, List.forall_mem_cons.mpr ⟨lw_p4, List.forall_mem_cons.mpr ⟨lw_p5, List.forall_mem_cons.mpr ⟨lw_p6, List.forall_mem_cons.mpr ⟨lw_p7, List.forall_mem_cons.mpr ⟨lw_p8, List.forall_mem_cons.mpr ⟨lw_p9, List.forall_mem_cons.mpr ⟨lw_p10, List.forall_mem_cons.mpr ⟨lw_p11, List.forall_mem_cons.mpr ⟨lw_p12, List.forall_mem_cons.mpr ⟨lw_p13, fun _ h => absurd h List.not_mem_nil⟩⟩⟩⟩⟩⟩⟩⟩⟩⟩⟩⟩⟩⟩
def lw_privs : List (MethodName × Nat) := lw_privs_1
def lw_tbl : List Cond := k2_sels lw_privs ++ tables_1
theorem lw_privs_ok : ∀ q ∈ lw_privs, lw_okq q := lw_r1
end
section
-- the words that every method takes: those of the tables that stay true while the machine runs
def gT : List Cond := lw_tbl.filter goodWord
theorem gT_of {w : Cond} (h : w ∈ lw_tbl) (g : goodWord w = true) : w ∈ gT := List.mem_filter.mpr ⟨h, g⟩
-- names of the classes and of their fields
def R_T : String := "RouteTrie"
def F_T : u_T := fun k => match k with
  | 0 => ("RouteTrie", "bits", "[I", true)
  | 1 => ("RouteTrie", "lengths", "[I", true)
  | 2 => ("RouteTrie", "hops", "[I", true)
  | 3 => ("RouteTrie", "zeros", "[I", true)
  | 4 => ("RouteTrie", "ones", "[I", true)
  | 5 => ("RouteTrie", "below", "[I", true)
  | 6 => ("RouteTrie", "free", "I", false)
  | _ => ("RouteTrie", "used", "I", false)
def ft_T : Nat → FieldType := fun k => match k with
  | 0 => .array .int
  | 1 => .array .int
  | 2 => .array .int
  | 3 => .array .int
  | 4 => .array .int
  | 5 => .array .int
  | 6 => .int
  | _ => .int
theorem fn_T : ∀ a, a < 8 → ∀ b, b < 8 → a ≠ b → (F_T a).2.1 ≠ (F_T b).2.1 := by decide +kernel
theorem fo_T : ∀ k, k < 8 → parseFieldDescriptor (F_T k).2.2.1 = some (ft_T k) := by decide +kernel
theorem fi_T : ∀ w ∈ u_ws R_T F_T 8, w ∈ gT := by decide +kernel
def R_M : String := "RouteTrieModel"
def F_M : u_T := fun k => match k with
  | 0 => ("RouteTrieModel", "code", "I", false)
  | 1 => ("RouteTrieModel", "bits", "[I", true)
  | 2 => ("RouteTrieModel", "lengths", "[I", true)
  | 3 => ("RouteTrieModel", "hops", "[I", true)
  | 4 => ("RouteTrieModel", "size", "I", false)
  | 5 => ("RouteTrieModel", "nodeBits", "[I", true)
  | 6 => ("RouteTrieModel", "nodeLengths", "[I", true)
  | _ => ("RouteTrieModel", "nodeCount", "I", false)
def ft_M : Nat → FieldType := fun k => match k with
  | 0 => .int
  | 1 => .array .int
  | 2 => .array .int
  | 3 => .array .int
  | 4 => .int
  | 5 => .array .int
  | 6 => .array .int
  | _ => .int
theorem fn_M : ∀ a, a < 8 → ∀ b, b < 8 → a ≠ b → (F_M a).2.1 ≠ (F_M b).2.1 := by decide +kernel
theorem fo_M : ∀ k, k < 8 → parseFieldDescriptor (F_M k).2.2.1 = some (ft_M k) := by decide +kernel
theorem fi_M : ∀ w ∈ u_ws R_M F_M 8, w ∈ gT := by decide +kernel
abbrev classes : List vw_C := [(R_T, F_T, 8), (R_M, F_M, 8)]
-- the states of the two objects, their readers and writers
abbrev TS : Type := (Nat → Int32) × (Nat → Int32) × (Nat → Int32) × (Nat → Int32) × (Nat → Int32) × (Nat → Int32) × Int32 × Int32
def sB (S : TS) : Nat → Int32 := S.1
def sL (S : TS) : Nat → Int32 := S.2.1
def sH (S : TS) : Nat → Int32 := S.2.2.1
def sZ (S : TS) : Nat → Int32 := S.2.2.2.1
def sO (S : TS) : Nat → Int32 := S.2.2.2.2.1
def sW (S : TS) : Nat → Int32 := S.2.2.2.2.2.1
def sF (S : TS) : Int32 := S.2.2.2.2.2.2.1
def sU (S : TS) : Int32 := S.2.2.2.2.2.2.2
def uB (S : TS) (n : Nat) (x : Int32) : TS := (upd (S.1) n x, S.2.1, S.2.2.1, S.2.2.2.1, S.2.2.2.2.1, S.2.2.2.2.2.1, S.2.2.2.2.2.2.1, S.2.2.2.2.2.2.2)
def uL (S : TS) (n : Nat) (x : Int32) : TS := (S.1, upd (S.2.1) n x, S.2.2.1, S.2.2.2.1, S.2.2.2.2.1, S.2.2.2.2.2.1, S.2.2.2.2.2.2.1, S.2.2.2.2.2.2.2)
def uH (S : TS) (n : Nat) (x : Int32) : TS := (S.1, S.2.1, upd (S.2.2.1) n x, S.2.2.2.1, S.2.2.2.2.1, S.2.2.2.2.2.1, S.2.2.2.2.2.2.1, S.2.2.2.2.2.2.2)
def uZ (S : TS) (n : Nat) (x : Int32) : TS := (S.1, S.2.1, S.2.2.1, upd (S.2.2.2.1) n x, S.2.2.2.2.1, S.2.2.2.2.2.1, S.2.2.2.2.2.2.1, S.2.2.2.2.2.2.2)
def uO (S : TS) (n : Nat) (x : Int32) : TS := (S.1, S.2.1, S.2.2.1, S.2.2.2.1, upd (S.2.2.2.2.1) n x, S.2.2.2.2.2.1, S.2.2.2.2.2.2.1, S.2.2.2.2.2.2.2)
def uW (S : TS) (n : Nat) (x : Int32) : TS := (S.1, S.2.1, S.2.2.1, S.2.2.2.1, S.2.2.2.2.1, upd (S.2.2.2.2.2.1) n x, S.2.2.2.2.2.2.1, S.2.2.2.2.2.2.2)
def uF (S : TS) (x : Int32) : TS := (S.1, S.2.1, S.2.2.1, S.2.2.2.1, S.2.2.2.2.1, S.2.2.2.2.2.1, x, S.2.2.2.2.2.2.2)
def uU (S : TS) (x : Int32) : TS := (S.1, S.2.1, S.2.2.1, S.2.2.2.1, S.2.2.2.2.1, S.2.2.2.2.2.1, S.2.2.2.2.2.2.1, x)
abbrev MS : Type := Int32 × (Nat → Int32) × (Nat → Int32) × (Nat → Int32) × Int32 × (Nat → Int32) × (Nat → Int32) × Int32
def mK (S : MS) : Int32 := S.1
def mB (S : MS) : Nat → Int32 := S.2.1
def mL (S : MS) : Nat → Int32 := S.2.2.1
def mH (S : MS) : Nat → Int32 := S.2.2.2.1
def mN (S : MS) : Int32 := S.2.2.2.2.1
def mP (S : MS) : Nat → Int32 := S.2.2.2.2.2.1
def mQ (S : MS) : Nat → Int32 := S.2.2.2.2.2.2.1
def mC (S : MS) : Int32 := S.2.2.2.2.2.2.2
def vK (S : MS) (x : Int32) : MS := (x, S.2.1, S.2.2.1, S.2.2.2.1, S.2.2.2.2.1, S.2.2.2.2.2.1, S.2.2.2.2.2.2.1, S.2.2.2.2.2.2.2)
def vB (S : MS) (n : Nat) (x : Int32) : MS := (S.1, upd (S.2.1) n x, S.2.2.1, S.2.2.2.1, S.2.2.2.2.1, S.2.2.2.2.2.1, S.2.2.2.2.2.2.1, S.2.2.2.2.2.2.2)
def vL (S : MS) (n : Nat) (x : Int32) : MS := (S.1, S.2.1, upd (S.2.2.1) n x, S.2.2.2.1, S.2.2.2.2.1, S.2.2.2.2.2.1, S.2.2.2.2.2.2.1, S.2.2.2.2.2.2.2)
def vH (S : MS) (n : Nat) (x : Int32) : MS := (S.1, S.2.1, S.2.2.1, upd (S.2.2.2.1) n x, S.2.2.2.2.1, S.2.2.2.2.2.1, S.2.2.2.2.2.2.1, S.2.2.2.2.2.2.2)
def vN (S : MS) (x : Int32) : MS := (S.1, S.2.1, S.2.2.1, S.2.2.2.1, x, S.2.2.2.2.2.1, S.2.2.2.2.2.2.1, S.2.2.2.2.2.2.2)
def vP (S : MS) (n : Nat) (x : Int32) : MS := (S.1, S.2.1, S.2.2.1, S.2.2.2.1, S.2.2.2.2.1, upd (S.2.2.2.2.2.1) n x, S.2.2.2.2.2.2.1, S.2.2.2.2.2.2.2)
def vQ (S : MS) (n : Nat) (x : Int32) : MS := (S.1, S.2.1, S.2.2.1, S.2.2.2.1, S.2.2.2.2.1, S.2.2.2.2.2.1, upd (S.2.2.2.2.2.2.1) n x, S.2.2.2.2.2.2.2)
def vC (S : MS) (x : Int32) : MS := (S.1, S.2.1, S.2.2.1, S.2.2.2.1, S.2.2.2.2.1, S.2.2.2.2.2.1, S.2.2.2.2.2.2.1, x)
-- the worlds: the object and its arrays
def wT (a : Nat → Nat) (cA : ClassId) (S : TS) : va_W := [(a 0, .inr (0, [.ref (a 1), .ref (a 2), .ref (a 3), .ref (a 4), .ref (a 5), .ref (a 6), .int (sF S), .int (sU S)])), (a 1, .inl (cA, 1001, .inl (sB S))), (a 2, .inl (cA, 1001, .inl (sL S))), (a 3, .inl (cA, 1001, .inl (sH S))), (a 4, .inl (cA, 1001, .inl (sZ S))), (a 5, .inl (cA, 1001, .inl (sO S))), (a 6, .inl (cA, 1001, .inl (sW S)))]
def wM (a : Nat → Nat) (cA : ClassId) (S : MS) : va_W := [(a 0, .inr (1, [.int (mK S), .ref (a 1), .ref (a 2), .ref (a 3), .int (mN S), .ref (a 4), .ref (a 5), .int (mC S)])), (a 1, .inl (cA, 500, .inl (mB S))), (a 2, .inl (cA, 500, .inl (mL S))), (a 3, .inl (cA, 500, .inl (mH S))), (a 4, .inl (cA, 1000, .inl (mP S))), (a 5, .inl (cA, 1000, .inl (mQ S)))]
def aT (a : Nat → Nat) : Nat → Prop := fun q => ∃ i, i < 7 ∧ q = a i
def aM (a : Nat → Nat) : Nat → Prop := fun q => ∃ i, i < 6 ∧ q = a i
def okb (i : Int32) (n : Nat) : Bool := decide (¬ (i < 0 ∨ n ≤ i.toNatClampNeg))
theorem okb_in {i : Int32} {n : Nat} (h : okb i n = true) : vp_in i n := by
  have h2 : ¬ (i < 0 ∨ n ≤ i.toNatClampNeg) := of_decide_eq_true h
  exact h2
abbrev cl (i : Int32) : Nat := i.toNatClampNeg
def gd {α : Type} (b : Bool) (x : Option α) : Option α := if b = true then x else none
theorem gd_some {α : Type} {b : Bool} {x : Option α} {r : α} (h : gd b x = some r) : b = true ∧ x = some r := by
  unfold gd at h
  by_cases hb : b = true
  · rw [if_pos hb] at h; exact ⟨hb, h⟩
  · rw [if_neg hb] at h; cases h
def rmL (n : Nat) : Room := { frames := n, cells := 0, slots := 0, locals := 40 * n }
theorem dU_T {A B : Nat → Prop} {a : Nat → Nat} {cA : ClassId} {S : TS} (h : va_D B (wT a cA S)) (hA : ∀ i, i < 7 → A (a i)) : ∀ S' : TS, va_D A (wT a cA S') := by
  intro S'
  have key : ∀ (S : TS) (k : Nat) (q : Nat × va_E), (wT a cA S)[k]? = some q → k < 7 ∧ q.1 = a k := by
    intro S k q hk
    match k, hk with
    | 0, hk => cases hk; exact ⟨by decide, rfl⟩
    | 1, hk => cases hk; exact ⟨by decide, rfl⟩
    | 2, hk => cases hk; exact ⟨by decide, rfl⟩
    | 3, hk => cases hk; exact ⟨by decide, rfl⟩
    | 4, hk => cases hk; exact ⟨by decide, rfl⟩
    | 5, hk => cases hk; exact ⟨by decide, rfl⟩
    | 6, hk => cases hk; exact ⟨by decide, rfl⟩
    | k + 7, hk => cases hk
  have key2 : ∀ k, k < 7 → ∃ q, (wT a cA S)[k]? = some q ∧ q.1 = a k := by
    intro k hk
    match k, hk with
    | 0, _ => exact ⟨_, rfl, rfl⟩
    | 1, _ => exact ⟨_, rfl, rfl⟩
    | 2, _ => exact ⟨_, rfl, rfl⟩
    | 3, _ => exact ⟨_, rfl, rfl⟩
    | 4, _ => exact ⟨_, rfl, rfl⟩
    | 5, _ => exact ⟨_, rfl, rfl⟩
    | 6, _ => exact ⟨_, rfl, rfl⟩
    | k + 7, hk => omega
  refine ⟨fun i j x y hi hj hxy => ?_, fun k q hk => ?_⟩
  · obtain ⟨h1, e1⟩ := key S' i x hi
    obtain ⟨h2, e2⟩ := key S' j y hj
    obtain ⟨x', hx', e3⟩ := key2 i h1
    obtain ⟨y', hy', e4⟩ := key2 j h2
    exact h.1 i j x' y' hx' hy' (by rw [e3, e4, ← e1, ← e2, hxy])
  · obtain ⟨h1, e1⟩ := key S' k q hk
    rw [e1]; exact hA k h1
theorem dU_M {A B : Nat → Prop} {a : Nat → Nat} {cA : ClassId} {S : MS} (h : va_D B (wM a cA S)) (hA : ∀ i, i < 6 → A (a i)) : ∀ S' : MS, va_D A (wM a cA S') := by
  intro S'
  have key : ∀ (S : MS) (k : Nat) (q : Nat × va_E), (wM a cA S)[k]? = some q → k < 6 ∧ q.1 = a k := by
    intro S k q hk
    match k, hk with
    | 0, hk => cases hk; exact ⟨by decide, rfl⟩
    | 1, hk => cases hk; exact ⟨by decide, rfl⟩
    | 2, hk => cases hk; exact ⟨by decide, rfl⟩
    | 3, hk => cases hk; exact ⟨by decide, rfl⟩
    | 4, hk => cases hk; exact ⟨by decide, rfl⟩
    | 5, hk => cases hk; exact ⟨by decide, rfl⟩
    | k + 6, hk => cases hk
  have key2 : ∀ k, k < 6 → ∃ q, (wM a cA S)[k]? = some q ∧ q.1 = a k := by
    intro k hk
    match k, hk with
    | 0, _ => exact ⟨_, rfl, rfl⟩
    | 1, _ => exact ⟨_, rfl, rfl⟩
    | 2, _ => exact ⟨_, rfl, rfl⟩
    | 3, _ => exact ⟨_, rfl, rfl⟩
    | 4, _ => exact ⟨_, rfl, rfl⟩
    | 5, _ => exact ⟨_, rfl, rfl⟩
    | k + 6, hk => omega
  refine ⟨fun i j x y hi hj hxy => ?_, fun k q hk => ?_⟩
  · obtain ⟨h1, e1⟩ := key S' i x hi
    obtain ⟨h2, e2⟩ := key S' j y hj
    obtain ⟨x', hx', e3⟩ := key2 i h1
    obtain ⟨y', hy', e4⟩ := key2 j h2
    exact h.1 i j x' y' hx' hy' (by rw [e3, e4, ← e1, ← e2, hxy])
  · obtain ⟨h1, e1⟩ := key S' k q hk
    rw [e1]; exact hA k h1
section
variable {p : Program} {l : Launch} {e : Env} {R : Room} {s : State} {m : MethodId} {args : Array Value} {below : List Frame} {meth : Method} {c : Code} {H : Heap} {locs : List Loc} {cells slots : Nat} {Q : State → Prop} {cc : ByteArray} {pc nL : Nat} {ls : Array Slot} {rest st0 : List Value} {D : va_G} {a : Nat → Nat} {cA : ClassId} {own : String} {A : Nat → Prop} {H0 : Heap}
section
variable {S : TS}
theorem fl_TB : Cond.fieldLink R_T 9 (F_T 0).1 (F_T 0).2.1 (F_T 0).2.2.1 ∈ gT := by decide +kernel
theorem tg_B (E : CallFix p m c cc nL s args gT R_T) (hK : va_K D classes [(cA, .int)] s) (hP : va_P D classes (wT a cA S) H) (hdg : decode cc pc = .ok (.getfield 9, 3))
    (k : W p l e R s m args below meth c H locs cells slots Q (F0 m (pc + 3) ls (.ref (a 1) :: rest))) : W p l e R s m args below meth c H locs cells slots Q (F0 m pc ls (.ref (a 0) :: rest)) :=
  va_get (D := D) (ci := 0) (v := .ref (a 1)) (C := R_T) (T := F_T) (N := 8) E.1 E.2.1 E.2.2.2.2 fi_T E.2.2.2.1 hK hP 0 rfl rfl 0 (by decide) (E.2.2.2.2 _ fl_TB) (fun _ h9 => h9) rfl hdg k
theorem ta_B (E : CallFix p m c cc nL s args gT own) (hK : va_K D classes [(cA, .int)] s) (hP : va_P D classes (wT a cA S) H) {i : Int32} (hi : okb i 1001 = true) (hdg : decode cc pc = .ok (.iaload, 1))
    (k : W p l e R s m args below meth c H locs cells slots Q (F0 m (pc + 1) ls (.int (sB S (cl i)) :: rest))) : W p l e R s m args below meth c H locs cells slots Q (F0 m pc ls (.int i :: .ref (a 1) :: rest)) :=
  va_iald E.1 E.2.1 hK hP 1 0 rfl rfl (okb_in hi) hdg k
theorem ts_B (E : CallFix p m c cc nL s args gT own) (hK : va_K D classes [(cA, .int)] s) (hD : ∀ S : TS, va_D A (wT a cA S)) (hP : va_P D classes (wT a cA S) H) (hS : va_S A H0 H locs) {i x : Int32} (hi : okb i 1001 = true) (hdg : decode cc pc = .ok (.iastore, 1))
    (k : ∀ (H1 : Heap) (locs1 : List Loc), va_P D classes (wT a cA (uB S (cl i) x)) H1 → va_S A H0 H1 locs1 → W p l e R s m args below meth c H1 locs1 cells slots Q (F0 m (pc + 1) ls rest)) : W p l e R s m args below meth c H locs cells slots Q (F0 m pc ls (.int x :: .int i :: .ref (a 1) :: rest)) :=
  va_iast E.1 E.2.1 hK hP (hD S) hS 1 0 rfl rfl (okb_in hi) hdg (fun H1 locs1 hP1 _ hS1 => k H1 locs1 hP1 hS1)
theorem fl_TL : Cond.fieldLink R_T 13 (F_T 1).1 (F_T 1).2.1 (F_T 1).2.2.1 ∈ gT := by decide +kernel
theorem tg_L (E : CallFix p m c cc nL s args gT R_T) (hK : va_K D classes [(cA, .int)] s) (hP : va_P D classes (wT a cA S) H) (hdg : decode cc pc = .ok (.getfield 13, 3))
    (k : W p l e R s m args below meth c H locs cells slots Q (F0 m (pc + 3) ls (.ref (a 2) :: rest))) : W p l e R s m args below meth c H locs cells slots Q (F0 m pc ls (.ref (a 0) :: rest)) :=
  va_get (D := D) (ci := 0) (v := .ref (a 2)) (C := R_T) (T := F_T) (N := 8) E.1 E.2.1 E.2.2.2.2 fi_T E.2.2.2.1 hK hP 0 rfl rfl 1 (by decide) (E.2.2.2.2 _ fl_TL) (fun _ h9 => h9) rfl hdg k
theorem ta_L (E : CallFix p m c cc nL s args gT own) (hK : va_K D classes [(cA, .int)] s) (hP : va_P D classes (wT a cA S) H) {i : Int32} (hi : okb i 1001 = true) (hdg : decode cc pc = .ok (.iaload, 1))
    (k : W p l e R s m args below meth c H locs cells slots Q (F0 m (pc + 1) ls (.int (sL S (cl i)) :: rest))) : W p l e R s m args below meth c H locs cells slots Q (F0 m pc ls (.int i :: .ref (a 2) :: rest)) :=
  va_iald E.1 E.2.1 hK hP 2 0 rfl rfl (okb_in hi) hdg k
theorem ts_L (E : CallFix p m c cc nL s args gT own) (hK : va_K D classes [(cA, .int)] s) (hD : ∀ S : TS, va_D A (wT a cA S)) (hP : va_P D classes (wT a cA S) H) (hS : va_S A H0 H locs) {i x : Int32} (hi : okb i 1001 = true) (hdg : decode cc pc = .ok (.iastore, 1))
    (k : ∀ (H1 : Heap) (locs1 : List Loc), va_P D classes (wT a cA (uL S (cl i) x)) H1 → va_S A H0 H1 locs1 → W p l e R s m args below meth c H1 locs1 cells slots Q (F0 m (pc + 1) ls rest)) : W p l e R s m args below meth c H locs cells slots Q (F0 m pc ls (.int x :: .int i :: .ref (a 2) :: rest)) :=
  va_iast E.1 E.2.1 hK hP (hD S) hS 2 0 rfl rfl (okb_in hi) hdg (fun H1 locs1 hP1 _ hS1 => k H1 locs1 hP1 hS1)
theorem fl_TH : Cond.fieldLink R_T 16 (F_T 2).1 (F_T 2).2.1 (F_T 2).2.2.1 ∈ gT := by decide +kernel
theorem tg_H (E : CallFix p m c cc nL s args gT R_T) (hK : va_K D classes [(cA, .int)] s) (hP : va_P D classes (wT a cA S) H) (hdg : decode cc pc = .ok (.getfield 16, 3))
    (k : W p l e R s m args below meth c H locs cells slots Q (F0 m (pc + 3) ls (.ref (a 3) :: rest))) : W p l e R s m args below meth c H locs cells slots Q (F0 m pc ls (.ref (a 0) :: rest)) :=
  va_get (D := D) (ci := 0) (v := .ref (a 3)) (C := R_T) (T := F_T) (N := 8) E.1 E.2.1 E.2.2.2.2 fi_T E.2.2.2.1 hK hP 0 rfl rfl 2 (by decide) (E.2.2.2.2 _ fl_TH) (fun _ h9 => h9) rfl hdg k
theorem ta_H (E : CallFix p m c cc nL s args gT own) (hK : va_K D classes [(cA, .int)] s) (hP : va_P D classes (wT a cA S) H) {i : Int32} (hi : okb i 1001 = true) (hdg : decode cc pc = .ok (.iaload, 1))
    (k : W p l e R s m args below meth c H locs cells slots Q (F0 m (pc + 1) ls (.int (sH S (cl i)) :: rest))) : W p l e R s m args below meth c H locs cells slots Q (F0 m pc ls (.int i :: .ref (a 3) :: rest)) :=
  va_iald E.1 E.2.1 hK hP 3 0 rfl rfl (okb_in hi) hdg k
theorem ts_H (E : CallFix p m c cc nL s args gT own) (hK : va_K D classes [(cA, .int)] s) (hD : ∀ S : TS, va_D A (wT a cA S)) (hP : va_P D classes (wT a cA S) H) (hS : va_S A H0 H locs) {i x : Int32} (hi : okb i 1001 = true) (hdg : decode cc pc = .ok (.iastore, 1))
    (k : ∀ (H1 : Heap) (locs1 : List Loc), va_P D classes (wT a cA (uH S (cl i) x)) H1 → va_S A H0 H1 locs1 → W p l e R s m args below meth c H1 locs1 cells slots Q (F0 m (pc + 1) ls rest)) : W p l e R s m args below meth c H locs cells slots Q (F0 m pc ls (.int x :: .int i :: .ref (a 3) :: rest)) :=
  va_iast E.1 E.2.1 hK hP (hD S) hS 3 0 rfl rfl (okb_in hi) hdg (fun H1 locs1 hP1 _ hS1 => k H1 locs1 hP1 hS1)
theorem fl_TZ : Cond.fieldLink R_T 19 (F_T 3).1 (F_T 3).2.1 (F_T 3).2.2.1 ∈ gT := by decide +kernel
theorem tg_Z (E : CallFix p m c cc nL s args gT R_T) (hK : va_K D classes [(cA, .int)] s) (hP : va_P D classes (wT a cA S) H) (hdg : decode cc pc = .ok (.getfield 19, 3))
    (k : W p l e R s m args below meth c H locs cells slots Q (F0 m (pc + 3) ls (.ref (a 4) :: rest))) : W p l e R s m args below meth c H locs cells slots Q (F0 m pc ls (.ref (a 0) :: rest)) :=
  va_get (D := D) (ci := 0) (v := .ref (a 4)) (C := R_T) (T := F_T) (N := 8) E.1 E.2.1 E.2.2.2.2 fi_T E.2.2.2.1 hK hP 0 rfl rfl 3 (by decide) (E.2.2.2.2 _ fl_TZ) (fun _ h9 => h9) rfl hdg k
theorem ta_Z (E : CallFix p m c cc nL s args gT own) (hK : va_K D classes [(cA, .int)] s) (hP : va_P D classes (wT a cA S) H) {i : Int32} (hi : okb i 1001 = true) (hdg : decode cc pc = .ok (.iaload, 1))
    (k : W p l e R s m args below meth c H locs cells slots Q (F0 m (pc + 1) ls (.int (sZ S (cl i)) :: rest))) : W p l e R s m args below meth c H locs cells slots Q (F0 m pc ls (.int i :: .ref (a 4) :: rest)) :=
  va_iald E.1 E.2.1 hK hP 4 0 rfl rfl (okb_in hi) hdg k
theorem ts_Z (E : CallFix p m c cc nL s args gT own) (hK : va_K D classes [(cA, .int)] s) (hD : ∀ S : TS, va_D A (wT a cA S)) (hP : va_P D classes (wT a cA S) H) (hS : va_S A H0 H locs) {i x : Int32} (hi : okb i 1001 = true) (hdg : decode cc pc = .ok (.iastore, 1))
    (k : ∀ (H1 : Heap) (locs1 : List Loc), va_P D classes (wT a cA (uZ S (cl i) x)) H1 → va_S A H0 H1 locs1 → W p l e R s m args below meth c H1 locs1 cells slots Q (F0 m (pc + 1) ls rest)) : W p l e R s m args below meth c H locs cells slots Q (F0 m pc ls (.int x :: .int i :: .ref (a 4) :: rest)) :=
  va_iast E.1 E.2.1 hK hP (hD S) hS 4 0 rfl rfl (okb_in hi) hdg (fun H1 locs1 hP1 _ hS1 => k H1 locs1 hP1 hS1)
theorem fl_TO : Cond.fieldLink R_T 22 (F_T 4).1 (F_T 4).2.1 (F_T 4).2.2.1 ∈ gT := by decide +kernel
theorem tg_O (E : CallFix p m c cc nL s args gT R_T) (hK : va_K D classes [(cA, .int)] s) (hP : va_P D classes (wT a cA S) H) (hdg : decode cc pc = .ok (.getfield 22, 3))
    (k : W p l e R s m args below meth c H locs cells slots Q (F0 m (pc + 3) ls (.ref (a 5) :: rest))) : W p l e R s m args below meth c H locs cells slots Q (F0 m pc ls (.ref (a 0) :: rest)) :=
  va_get (D := D) (ci := 0) (v := .ref (a 5)) (C := R_T) (T := F_T) (N := 8) E.1 E.2.1 E.2.2.2.2 fi_T E.2.2.2.1 hK hP 0 rfl rfl 4 (by decide) (E.2.2.2.2 _ fl_TO) (fun _ h9 => h9) rfl hdg k
theorem ta_O (E : CallFix p m c cc nL s args gT own) (hK : va_K D classes [(cA, .int)] s) (hP : va_P D classes (wT a cA S) H) {i : Int32} (hi : okb i 1001 = true) (hdg : decode cc pc = .ok (.iaload, 1))
    (k : W p l e R s m args below meth c H locs cells slots Q (F0 m (pc + 1) ls (.int (sO S (cl i)) :: rest))) : W p l e R s m args below meth c H locs cells slots Q (F0 m pc ls (.int i :: .ref (a 5) :: rest)) :=
  va_iald E.1 E.2.1 hK hP 5 0 rfl rfl (okb_in hi) hdg k
theorem ts_O (E : CallFix p m c cc nL s args gT own) (hK : va_K D classes [(cA, .int)] s) (hD : ∀ S : TS, va_D A (wT a cA S)) (hP : va_P D classes (wT a cA S) H) (hS : va_S A H0 H locs) {i x : Int32} (hi : okb i 1001 = true) (hdg : decode cc pc = .ok (.iastore, 1))
    (k : ∀ (H1 : Heap) (locs1 : List Loc), va_P D classes (wT a cA (uO S (cl i) x)) H1 → va_S A H0 H1 locs1 → W p l e R s m args below meth c H1 locs1 cells slots Q (F0 m (pc + 1) ls rest)) : W p l e R s m args below meth c H locs cells slots Q (F0 m pc ls (.int x :: .int i :: .ref (a 5) :: rest)) :=
  va_iast E.1 E.2.1 hK hP (hD S) hS 5 0 rfl rfl (okb_in hi) hdg (fun H1 locs1 hP1 _ hS1 => k H1 locs1 hP1 hS1)
theorem fl_TW : Cond.fieldLink R_T 25 (F_T 5).1 (F_T 5).2.1 (F_T 5).2.2.1 ∈ gT := by decide +kernel
theorem tg_W (E : CallFix p m c cc nL s args gT R_T) (hK : va_K D classes [(cA, .int)] s) (hP : va_P D classes (wT a cA S) H) (hdg : decode cc pc = .ok (.getfield 25, 3))
    (k : W p l e R s m args below meth c H locs cells slots Q (F0 m (pc + 3) ls (.ref (a 6) :: rest))) : W p l e R s m args below meth c H locs cells slots Q (F0 m pc ls (.ref (a 0) :: rest)) :=
  va_get (D := D) (ci := 0) (v := .ref (a 6)) (C := R_T) (T := F_T) (N := 8) E.1 E.2.1 E.2.2.2.2 fi_T E.2.2.2.1 hK hP 0 rfl rfl 5 (by decide) (E.2.2.2.2 _ fl_TW) (fun _ h9 => h9) rfl hdg k
theorem ta_W (E : CallFix p m c cc nL s args gT own) (hK : va_K D classes [(cA, .int)] s) (hP : va_P D classes (wT a cA S) H) {i : Int32} (hi : okb i 1001 = true) (hdg : decode cc pc = .ok (.iaload, 1))
    (k : W p l e R s m args below meth c H locs cells slots Q (F0 m (pc + 1) ls (.int (sW S (cl i)) :: rest))) : W p l e R s m args below meth c H locs cells slots Q (F0 m pc ls (.int i :: .ref (a 6) :: rest)) :=
  va_iald E.1 E.2.1 hK hP 6 0 rfl rfl (okb_in hi) hdg k
theorem ts_W (E : CallFix p m c cc nL s args gT own) (hK : va_K D classes [(cA, .int)] s) (hD : ∀ S : TS, va_D A (wT a cA S)) (hP : va_P D classes (wT a cA S) H) (hS : va_S A H0 H locs) {i x : Int32} (hi : okb i 1001 = true) (hdg : decode cc pc = .ok (.iastore, 1))
    (k : ∀ (H1 : Heap) (locs1 : List Loc), va_P D classes (wT a cA (uW S (cl i) x)) H1 → va_S A H0 H1 locs1 → W p l e R s m args below meth c H1 locs1 cells slots Q (F0 m (pc + 1) ls rest)) : W p l e R s m args below meth c H locs cells slots Q (F0 m pc ls (.int x :: .int i :: .ref (a 6) :: rest)) :=
  va_iast E.1 E.2.1 hK hP (hD S) hS 6 0 rfl rfl (okb_in hi) hdg (fun H1 locs1 hP1 _ hS1 => k H1 locs1 hP1 hS1)
theorem fl_TF : Cond.fieldLink R_T 31 (F_T 6).1 (F_T 6).2.1 (F_T 6).2.2.1 ∈ gT := by decide +kernel
theorem tg_F (E : CallFix p m c cc nL s args gT R_T) (hK : va_K D classes [(cA, .int)] s) (hP : va_P D classes (wT a cA S) H) (hdg : decode cc pc = .ok (.getfield 31, 3))
    (k : W p l e R s m args below meth c H locs cells slots Q (F0 m (pc + 3) ls (.int (sF S) :: rest))) : W p l e R s m args below meth c H locs cells slots Q (F0 m pc ls (.ref (a 0) :: rest)) :=
  va_get (D := D) (ci := 0) (v := .int (sF S)) (C := R_T) (T := F_T) (N := 8) E.1 E.2.1 E.2.2.2.2 fi_T E.2.2.2.1 hK hP 0 rfl rfl 6 (by decide) (E.2.2.2.2 _ fl_TF) (fun _ h9 => h9) rfl hdg k
theorem tp_F (E : CallFix p m c cc nL s args gT R_T) (hK : va_K D classes [(cA, .int)] s) (hD : ∀ S : TS, va_D A (wT a cA S)) (hP : va_P D classes (wT a cA S) H) (hS : va_S A H0 H locs) {x : Int32} (hdg : decode cc pc = .ok (.putfield 31, 3))
    (k : ∀ (H1 : Heap) (locs1 : List Loc), va_P D classes (wT a cA (uF S x)) H1 → va_S A H0 H1 locs1 → W p l e R s m args below meth c H1 locs1 cells slots Q (F0 m (pc + 3) ls rest)) : W p l e R s m args below meth c H locs cells slots Q (F0 m pc ls (.int x :: .ref (a 0) :: rest)) :=
  va_put (D := D) (ci := 0) (v := .int x) (ty := .int) (C := R_T) (T := F_T) (N := 8) E.1 E.2.1 E.2.2.2.2 fi_T ft_T fo_T fn_T E.2.2.2.1 hK hP (hD S) hS 0 rfl rfl 6 (by decide) (E.2.2.2.2 _ fl_TF) (fun _ h9 => h9) rfl (by decide +kernel) rfl rfl (Nat.le_of_ble_eq_true rfl) hdg (fun H1 locs1 hP1 _ hS1 => k H1 locs1 hP1 hS1)
theorem fl_TU : Cond.fieldLink R_T 35 (F_T 7).1 (F_T 7).2.1 (F_T 7).2.2.1 ∈ gT := by decide +kernel
theorem tg_U (E : CallFix p m c cc nL s args gT R_T) (hK : va_K D classes [(cA, .int)] s) (hP : va_P D classes (wT a cA S) H) (hdg : decode cc pc = .ok (.getfield 35, 3))
    (k : W p l e R s m args below meth c H locs cells slots Q (F0 m (pc + 3) ls (.int (sU S) :: rest))) : W p l e R s m args below meth c H locs cells slots Q (F0 m pc ls (.ref (a 0) :: rest)) :=
  va_get (D := D) (ci := 0) (v := .int (sU S)) (C := R_T) (T := F_T) (N := 8) E.1 E.2.1 E.2.2.2.2 fi_T E.2.2.2.1 hK hP 0 rfl rfl 7 (by decide) (E.2.2.2.2 _ fl_TU) (fun _ h9 => h9) rfl hdg k
theorem tp_U (E : CallFix p m c cc nL s args gT R_T) (hK : va_K D classes [(cA, .int)] s) (hD : ∀ S : TS, va_D A (wT a cA S)) (hP : va_P D classes (wT a cA S) H) (hS : va_S A H0 H locs) {x : Int32} (hdg : decode cc pc = .ok (.putfield 35, 3))
    (k : ∀ (H1 : Heap) (locs1 : List Loc), va_P D classes (wT a cA (uU S x)) H1 → va_S A H0 H1 locs1 → W p l e R s m args below meth c H1 locs1 cells slots Q (F0 m (pc + 3) ls rest)) : W p l e R s m args below meth c H locs cells slots Q (F0 m pc ls (.int x :: .ref (a 0) :: rest)) :=
  va_put (D := D) (ci := 0) (v := .int x) (ty := .int) (C := R_T) (T := F_T) (N := 8) E.1 E.2.1 E.2.2.2.2 fi_T ft_T fo_T fn_T E.2.2.2.1 hK hP (hD S) hS 0 rfl rfl 7 (by decide) (E.2.2.2.2 _ fl_TU) (fun _ h9 => h9) rfl (by decide +kernel) rfl rfl (Nat.le_of_ble_eq_true rfl) hdg (fun H1 locs1 hP1 _ hS1 => k H1 locs1 hP1 hS1)
end
section
variable {S : MS}
theorem fl_MK : Cond.fieldLink R_M 25 (F_M 0).1 (F_M 0).2.1 (F_M 0).2.2.1 ∈ gT := by decide +kernel
theorem mg_K (E : CallFix p m c cc nL s args gT R_M) (hK : va_K D classes [(cA, .int)] s) (hP : va_P D classes (wM a cA S) H) (hdg : decode cc pc = .ok (.getfield 25, 3))
    (k : W p l e R s m args below meth c H locs cells slots Q (F0 m (pc + 3) ls (.int (mK S) :: rest))) : W p l e R s m args below meth c H locs cells slots Q (F0 m pc ls (.ref (a 0) :: rest)) :=
  va_get (D := D) (ci := 1) (v := .int (mK S)) (C := R_M) (T := F_M) (N := 8) E.1 E.2.1 E.2.2.2.2 fi_M E.2.2.2.1 hK hP 0 rfl rfl 0 (by decide) (E.2.2.2.2 _ fl_MK) (fun _ h9 => h9) rfl hdg k
theorem mp_K (E : CallFix p m c cc nL s args gT R_M) (hK : va_K D classes [(cA, .int)] s) (hD : ∀ S : MS, va_D A (wM a cA S)) (hP : va_P D classes (wM a cA S) H) (hS : va_S A H0 H locs) {x : Int32} (hdg : decode cc pc = .ok (.putfield 25, 3))
    (k : ∀ (H1 : Heap) (locs1 : List Loc), va_P D classes (wM a cA (vK S x)) H1 → va_S A H0 H1 locs1 → W p l e R s m args below meth c H1 locs1 cells slots Q (F0 m (pc + 3) ls rest)) : W p l e R s m args below meth c H locs cells slots Q (F0 m pc ls (.int x :: .ref (a 0) :: rest)) :=
  va_put (D := D) (ci := 1) (v := .int x) (ty := .int) (C := R_M) (T := F_M) (N := 8) E.1 E.2.1 E.2.2.2.2 fi_M ft_M fo_M fn_M E.2.2.2.1 hK hP (hD S) hS 0 rfl rfl 0 (by decide) (E.2.2.2.2 _ fl_MK) (fun _ h9 => h9) rfl (by decide +kernel) rfl rfl (Nat.le_of_ble_eq_true rfl) hdg (fun H1 locs1 hP1 _ hS1 => k H1 locs1 hP1 hS1)
theorem fl_MB : Cond.fieldLink R_M 7 (F_M 1).1 (F_M 1).2.1 (F_M 1).2.2.1 ∈ gT := by decide +kernel
theorem mg_B (E : CallFix p m c cc nL s args gT R_M) (hK : va_K D classes [(cA, .int)] s) (hP : va_P D classes (wM a cA S) H) (hdg : decode cc pc = .ok (.getfield 7, 3))
    (k : W p l e R s m args below meth c H locs cells slots Q (F0 m (pc + 3) ls (.ref (a 1) :: rest))) : W p l e R s m args below meth c H locs cells slots Q (F0 m pc ls (.ref (a 0) :: rest)) :=
  va_get (D := D) (ci := 1) (v := .ref (a 1)) (C := R_M) (T := F_M) (N := 8) E.1 E.2.1 E.2.2.2.2 fi_M E.2.2.2.1 hK hP 0 rfl rfl 1 (by decide) (E.2.2.2.2 _ fl_MB) (fun _ h9 => h9) rfl hdg k
theorem ma_B (E : CallFix p m c cc nL s args gT own) (hK : va_K D classes [(cA, .int)] s) (hP : va_P D classes (wM a cA S) H) {i : Int32} (hi : okb i 500 = true) (hdg : decode cc pc = .ok (.iaload, 1))
    (k : W p l e R s m args below meth c H locs cells slots Q (F0 m (pc + 1) ls (.int (mB S (cl i)) :: rest))) : W p l e R s m args below meth c H locs cells slots Q (F0 m pc ls (.int i :: .ref (a 1) :: rest)) :=
  va_iald E.1 E.2.1 hK hP 1 0 rfl rfl (okb_in hi) hdg k
theorem ms_B (E : CallFix p m c cc nL s args gT own) (hK : va_K D classes [(cA, .int)] s) (hD : ∀ S : MS, va_D A (wM a cA S)) (hP : va_P D classes (wM a cA S) H) (hS : va_S A H0 H locs) {i x : Int32} (hi : okb i 500 = true) (hdg : decode cc pc = .ok (.iastore, 1))
    (k : ∀ (H1 : Heap) (locs1 : List Loc), va_P D classes (wM a cA (vB S (cl i) x)) H1 → va_S A H0 H1 locs1 → W p l e R s m args below meth c H1 locs1 cells slots Q (F0 m (pc + 1) ls rest)) : W p l e R s m args below meth c H locs cells slots Q (F0 m pc ls (.int x :: .int i :: .ref (a 1) :: rest)) :=
  va_iast E.1 E.2.1 hK hP (hD S) hS 1 0 rfl rfl (okb_in hi) hdg (fun H1 locs1 hP1 _ hS1 => k H1 locs1 hP1 hS1)
theorem fl_ML : Cond.fieldLink R_M 13 (F_M 2).1 (F_M 2).2.1 (F_M 2).2.2.1 ∈ gT := by decide +kernel
theorem mg_L (E : CallFix p m c cc nL s args gT R_M) (hK : va_K D classes [(cA, .int)] s) (hP : va_P D classes (wM a cA S) H) (hdg : decode cc pc = .ok (.getfield 13, 3))
    (k : W p l e R s m args below meth c H locs cells slots Q (F0 m (pc + 3) ls (.ref (a 2) :: rest))) : W p l e R s m args below meth c H locs cells slots Q (F0 m pc ls (.ref (a 0) :: rest)) :=
  va_get (D := D) (ci := 1) (v := .ref (a 2)) (C := R_M) (T := F_M) (N := 8) E.1 E.2.1 E.2.2.2.2 fi_M E.2.2.2.1 hK hP 0 rfl rfl 2 (by decide) (E.2.2.2.2 _ fl_ML) (fun _ h9 => h9) rfl hdg k
theorem ma_L (E : CallFix p m c cc nL s args gT own) (hK : va_K D classes [(cA, .int)] s) (hP : va_P D classes (wM a cA S) H) {i : Int32} (hi : okb i 500 = true) (hdg : decode cc pc = .ok (.iaload, 1))
    (k : W p l e R s m args below meth c H locs cells slots Q (F0 m (pc + 1) ls (.int (mL S (cl i)) :: rest))) : W p l e R s m args below meth c H locs cells slots Q (F0 m pc ls (.int i :: .ref (a 2) :: rest)) :=
  va_iald E.1 E.2.1 hK hP 2 0 rfl rfl (okb_in hi) hdg k
theorem ms_L (E : CallFix p m c cc nL s args gT own) (hK : va_K D classes [(cA, .int)] s) (hD : ∀ S : MS, va_D A (wM a cA S)) (hP : va_P D classes (wM a cA S) H) (hS : va_S A H0 H locs) {i x : Int32} (hi : okb i 500 = true) (hdg : decode cc pc = .ok (.iastore, 1))
    (k : ∀ (H1 : Heap) (locs1 : List Loc), va_P D classes (wM a cA (vL S (cl i) x)) H1 → va_S A H0 H1 locs1 → W p l e R s m args below meth c H1 locs1 cells slots Q (F0 m (pc + 1) ls rest)) : W p l e R s m args below meth c H locs cells slots Q (F0 m pc ls (.int x :: .int i :: .ref (a 2) :: rest)) :=
  va_iast E.1 E.2.1 hK hP (hD S) hS 2 0 rfl rfl (okb_in hi) hdg (fun H1 locs1 hP1 _ hS1 => k H1 locs1 hP1 hS1)
theorem fl_MH : Cond.fieldLink R_M 16 (F_M 3).1 (F_M 3).2.1 (F_M 3).2.2.1 ∈ gT := by decide +kernel
theorem mg_H (E : CallFix p m c cc nL s args gT R_M) (hK : va_K D classes [(cA, .int)] s) (hP : va_P D classes (wM a cA S) H) (hdg : decode cc pc = .ok (.getfield 16, 3))
    (k : W p l e R s m args below meth c H locs cells slots Q (F0 m (pc + 3) ls (.ref (a 3) :: rest))) : W p l e R s m args below meth c H locs cells slots Q (F0 m pc ls (.ref (a 0) :: rest)) :=
  va_get (D := D) (ci := 1) (v := .ref (a 3)) (C := R_M) (T := F_M) (N := 8) E.1 E.2.1 E.2.2.2.2 fi_M E.2.2.2.1 hK hP 0 rfl rfl 3 (by decide) (E.2.2.2.2 _ fl_MH) (fun _ h9 => h9) rfl hdg k
theorem ma_H (E : CallFix p m c cc nL s args gT own) (hK : va_K D classes [(cA, .int)] s) (hP : va_P D classes (wM a cA S) H) {i : Int32} (hi : okb i 500 = true) (hdg : decode cc pc = .ok (.iaload, 1))
    (k : W p l e R s m args below meth c H locs cells slots Q (F0 m (pc + 1) ls (.int (mH S (cl i)) :: rest))) : W p l e R s m args below meth c H locs cells slots Q (F0 m pc ls (.int i :: .ref (a 3) :: rest)) :=
  va_iald E.1 E.2.1 hK hP 3 0 rfl rfl (okb_in hi) hdg k
theorem ms_H (E : CallFix p m c cc nL s args gT own) (hK : va_K D classes [(cA, .int)] s) (hD : ∀ S : MS, va_D A (wM a cA S)) (hP : va_P D classes (wM a cA S) H) (hS : va_S A H0 H locs) {i x : Int32} (hi : okb i 500 = true) (hdg : decode cc pc = .ok (.iastore, 1))
    (k : ∀ (H1 : Heap) (locs1 : List Loc), va_P D classes (wM a cA (vH S (cl i) x)) H1 → va_S A H0 H1 locs1 → W p l e R s m args below meth c H1 locs1 cells slots Q (F0 m (pc + 1) ls rest)) : W p l e R s m args below meth c H locs cells slots Q (F0 m pc ls (.int x :: .int i :: .ref (a 3) :: rest)) :=
  va_iast E.1 E.2.1 hK hP (hD S) hS 3 0 rfl rfl (okb_in hi) hdg (fun H1 locs1 hP1 _ hS1 => k H1 locs1 hP1 hS1)
theorem fl_MN : Cond.fieldLink R_M 29 (F_M 4).1 (F_M 4).2.1 (F_M 4).2.2.1 ∈ gT := by decide +kernel
theorem mg_N (E : CallFix p m c cc nL s args gT R_M) (hK : va_K D classes [(cA, .int)] s) (hP : va_P D classes (wM a cA S) H) (hdg : decode cc pc = .ok (.getfield 29, 3))
    (k : W p l e R s m args below meth c H locs cells slots Q (F0 m (pc + 3) ls (.int (mN S) :: rest))) : W p l e R s m args below meth c H locs cells slots Q (F0 m pc ls (.ref (a 0) :: rest)) :=
  va_get (D := D) (ci := 1) (v := .int (mN S)) (C := R_M) (T := F_M) (N := 8) E.1 E.2.1 E.2.2.2.2 fi_M E.2.2.2.1 hK hP 0 rfl rfl 4 (by decide) (E.2.2.2.2 _ fl_MN) (fun _ h9 => h9) rfl hdg k
theorem mp_N (E : CallFix p m c cc nL s args gT R_M) (hK : va_K D classes [(cA, .int)] s) (hD : ∀ S : MS, va_D A (wM a cA S)) (hP : va_P D classes (wM a cA S) H) (hS : va_S A H0 H locs) {x : Int32} (hdg : decode cc pc = .ok (.putfield 29, 3))
    (k : ∀ (H1 : Heap) (locs1 : List Loc), va_P D classes (wM a cA (vN S x)) H1 → va_S A H0 H1 locs1 → W p l e R s m args below meth c H1 locs1 cells slots Q (F0 m (pc + 3) ls rest)) : W p l e R s m args below meth c H locs cells slots Q (F0 m pc ls (.int x :: .ref (a 0) :: rest)) :=
  va_put (D := D) (ci := 1) (v := .int x) (ty := .int) (C := R_M) (T := F_M) (N := 8) E.1 E.2.1 E.2.2.2.2 fi_M ft_M fo_M fn_M E.2.2.2.1 hK hP (hD S) hS 0 rfl rfl 4 (by decide) (E.2.2.2.2 _ fl_MN) (fun _ h9 => h9) rfl (by decide +kernel) rfl rfl (Nat.le_of_ble_eq_true rfl) hdg (fun H1 locs1 hP1 _ hS1 => k H1 locs1 hP1 hS1)
theorem fl_MP : Cond.fieldLink R_M 19 (F_M 5).1 (F_M 5).2.1 (F_M 5).2.2.1 ∈ gT := by decide +kernel
theorem mg_P (E : CallFix p m c cc nL s args gT R_M) (hK : va_K D classes [(cA, .int)] s) (hP : va_P D classes (wM a cA S) H) (hdg : decode cc pc = .ok (.getfield 19, 3))
    (k : W p l e R s m args below meth c H locs cells slots Q (F0 m (pc + 3) ls (.ref (a 4) :: rest))) : W p l e R s m args below meth c H locs cells slots Q (F0 m pc ls (.ref (a 0) :: rest)) :=
  va_get (D := D) (ci := 1) (v := .ref (a 4)) (C := R_M) (T := F_M) (N := 8) E.1 E.2.1 E.2.2.2.2 fi_M E.2.2.2.1 hK hP 0 rfl rfl 5 (by decide) (E.2.2.2.2 _ fl_MP) (fun _ h9 => h9) rfl hdg k
theorem ma_P (E : CallFix p m c cc nL s args gT own) (hK : va_K D classes [(cA, .int)] s) (hP : va_P D classes (wM a cA S) H) {i : Int32} (hi : okb i 1000 = true) (hdg : decode cc pc = .ok (.iaload, 1))
    (k : W p l e R s m args below meth c H locs cells slots Q (F0 m (pc + 1) ls (.int (mP S (cl i)) :: rest))) : W p l e R s m args below meth c H locs cells slots Q (F0 m pc ls (.int i :: .ref (a 4) :: rest)) :=
  va_iald E.1 E.2.1 hK hP 4 0 rfl rfl (okb_in hi) hdg k
theorem ms_P (E : CallFix p m c cc nL s args gT own) (hK : va_K D classes [(cA, .int)] s) (hD : ∀ S : MS, va_D A (wM a cA S)) (hP : va_P D classes (wM a cA S) H) (hS : va_S A H0 H locs) {i x : Int32} (hi : okb i 1000 = true) (hdg : decode cc pc = .ok (.iastore, 1))
    (k : ∀ (H1 : Heap) (locs1 : List Loc), va_P D classes (wM a cA (vP S (cl i) x)) H1 → va_S A H0 H1 locs1 → W p l e R s m args below meth c H1 locs1 cells slots Q (F0 m (pc + 1) ls rest)) : W p l e R s m args below meth c H locs cells slots Q (F0 m pc ls (.int x :: .int i :: .ref (a 4) :: rest)) :=
  va_iast E.1 E.2.1 hK hP (hD S) hS 4 0 rfl rfl (okb_in hi) hdg (fun H1 locs1 hP1 _ hS1 => k H1 locs1 hP1 hS1)
theorem fl_MQ : Cond.fieldLink R_M 22 (F_M 6).1 (F_M 6).2.1 (F_M 6).2.2.1 ∈ gT := by decide +kernel
theorem mg_Q (E : CallFix p m c cc nL s args gT R_M) (hK : va_K D classes [(cA, .int)] s) (hP : va_P D classes (wM a cA S) H) (hdg : decode cc pc = .ok (.getfield 22, 3))
    (k : W p l e R s m args below meth c H locs cells slots Q (F0 m (pc + 3) ls (.ref (a 5) :: rest))) : W p l e R s m args below meth c H locs cells slots Q (F0 m pc ls (.ref (a 0) :: rest)) :=
  va_get (D := D) (ci := 1) (v := .ref (a 5)) (C := R_M) (T := F_M) (N := 8) E.1 E.2.1 E.2.2.2.2 fi_M E.2.2.2.1 hK hP 0 rfl rfl 6 (by decide) (E.2.2.2.2 _ fl_MQ) (fun _ h9 => h9) rfl hdg k
theorem ma_Q (E : CallFix p m c cc nL s args gT own) (hK : va_K D classes [(cA, .int)] s) (hP : va_P D classes (wM a cA S) H) {i : Int32} (hi : okb i 1000 = true) (hdg : decode cc pc = .ok (.iaload, 1))
    (k : W p l e R s m args below meth c H locs cells slots Q (F0 m (pc + 1) ls (.int (mQ S (cl i)) :: rest))) : W p l e R s m args below meth c H locs cells slots Q (F0 m pc ls (.int i :: .ref (a 5) :: rest)) :=
  va_iald E.1 E.2.1 hK hP 5 0 rfl rfl (okb_in hi) hdg k
theorem ms_Q (E : CallFix p m c cc nL s args gT own) (hK : va_K D classes [(cA, .int)] s) (hD : ∀ S : MS, va_D A (wM a cA S)) (hP : va_P D classes (wM a cA S) H) (hS : va_S A H0 H locs) {i x : Int32} (hi : okb i 1000 = true) (hdg : decode cc pc = .ok (.iastore, 1))
    (k : ∀ (H1 : Heap) (locs1 : List Loc), va_P D classes (wM a cA (vQ S (cl i) x)) H1 → va_S A H0 H1 locs1 → W p l e R s m args below meth c H1 locs1 cells slots Q (F0 m (pc + 1) ls rest)) : W p l e R s m args below meth c H locs cells slots Q (F0 m pc ls (.int x :: .int i :: .ref (a 5) :: rest)) :=
  va_iast E.1 E.2.1 hK hP (hD S) hS 5 0 rfl rfl (okb_in hi) hdg (fun H1 locs1 hP1 _ hS1 => k H1 locs1 hP1 hS1)
theorem fl_MC : Cond.fieldLink R_M 55 (F_M 7).1 (F_M 7).2.1 (F_M 7).2.2.1 ∈ gT := by decide +kernel
theorem mg_C (E : CallFix p m c cc nL s args gT R_M) (hK : va_K D classes [(cA, .int)] s) (hP : va_P D classes (wM a cA S) H) (hdg : decode cc pc = .ok (.getfield 55, 3))
    (k : W p l e R s m args below meth c H locs cells slots Q (F0 m (pc + 3) ls (.int (mC S) :: rest))) : W p l e R s m args below meth c H locs cells slots Q (F0 m pc ls (.ref (a 0) :: rest)) :=
  va_get (D := D) (ci := 1) (v := .int (mC S)) (C := R_M) (T := F_M) (N := 8) E.1 E.2.1 E.2.2.2.2 fi_M E.2.2.2.1 hK hP 0 rfl rfl 7 (by decide) (E.2.2.2.2 _ fl_MC) (fun _ h9 => h9) rfl hdg k
theorem mp_C (E : CallFix p m c cc nL s args gT R_M) (hK : va_K D classes [(cA, .int)] s) (hD : ∀ S : MS, va_D A (wM a cA S)) (hP : va_P D classes (wM a cA S) H) (hS : va_S A H0 H locs) {x : Int32} (hdg : decode cc pc = .ok (.putfield 55, 3))
    (k : ∀ (H1 : Heap) (locs1 : List Loc), va_P D classes (wM a cA (vC S x)) H1 → va_S A H0 H1 locs1 → W p l e R s m args below meth c H1 locs1 cells slots Q (F0 m (pc + 3) ls rest)) : W p l e R s m args below meth c H locs cells slots Q (F0 m pc ls (.int x :: .ref (a 0) :: rest)) :=
  va_put (D := D) (ci := 1) (v := .int x) (ty := .int) (C := R_M) (T := F_M) (N := 8) E.1 E.2.1 E.2.2.2.2 fi_M ft_M fo_M fn_M E.2.2.2.1 hK hP (hD S) hS 0 rfl rfl 7 (by decide) (E.2.2.2.2 _ fl_MC) (fun _ h9 => h9) rfl (by decide +kernel) rfl rfl (Nat.le_of_ble_eq_true rfl) hdg (fun H1 locs1 hP1 _ hS1 => k H1 locs1 hP1 hS1)
end
end
-- contracts: what a method starts from, and how it ends
def rPcT (D : va_G) (a : Nat → Nat) (cA : ClassId) (S : TS) (av : List Value) : Array Value → State → Prop := fun v U => v = av.toArray ∧ va_P D classes (wT a cA S) U.heap ∧ va_K D classes [(cA, .int)] U
def rPcM (D : va_G) (a : Nat → Nat) (cA : ClassId) (S : MS) (av : List Value) : Array Value → State → Prop := fun v U => v = av.toArray ∧ va_P D classes (wM a cA S) U.heap ∧ va_K D classes [(cA, .int)] U
def mPcT (D : va_G) (a : Nat → Nat) (cA : ClassId) (S : TS) (av : List Value) : Array Value → State → Prop := fun v U => v = av.toArray ∧ va_P D classes (wT a cA S) U.heap ∧ va_K D classes [(cA, .int)] U ∧ va_D (fun _ => True) (wT a cA S)
def mPcM (D : va_G) (a : Nat → Nat) (cA : ClassId) (S : MS) (av : List Value) : Array Value → State → Prop := fun v U => v = av.toArray ∧ va_P D classes (wM a cA S) U.heap ∧ va_K D classes [(cA, .int)] U ∧ va_D (fun _ => True) (wM a cA S)
def mQcT (D : va_G) (a : Nat → Nat) (cA : ClassId) (v : Option Value) (S : TS) : Array Value → State → Outcome → State → Prop := fun _ st o t => o = .returned v ∧ va_P D classes (wT a cA S) t.heap ∧ va_F (aT a) st t
def mQcM (D : va_G) (a : Nat → Nat) (cA : ClassId) (v : Option Value) (S : MS) : Array Value → State → Outcome → State → Prop := fun _ st o t => o = .returned v ∧ va_P D classes (wM a cA S) t.heap ∧ va_F (aM a) st t
def MemS (y : MethodName) (bytes : ByteArray) (maxL : Nat) (ret : Option FieldType) (n : Nat) : Prop := Cond.code y bytes maxL ret ∈ gT ∧ Cond.static y ∈ gT ∧ Cond.initialized y.cls ∈ gT ∧ (y.cls ≠ "java/lang/invoke/MethodHandle" ∧ y.cls ≠ "java/lang/invoke/VarHandle" ∧ (parseMethodDescriptor y.desc).map (fun d => d.parameters.length) = some n)
def MemV (y : MethodName) (bytes : ByteArray) (maxL : Nat) (ret : Option FieldType) (n : Nat) (C : String) : Prop := Cond.code y bytes maxL ret ∈ gT ∧ Cond.instanceMethod y ∈ gT ∧ Cond.selects C y y ∈ gT ∧ Cond.initialized y.cls ∈ gT ∧ (y.cls ≠ "java/lang/invoke/MethodHandle" ∧ y.cls ≠ "java/lang/invoke/VarHandle" ∧ (parseMethodDescriptor y.desc).map (fun d => d.parameters.length) = some n)
theorem lw_good : ∀ w ∈ gT, goodWord w = true := fun w h => (List.mem_filter.mp h).2
theorem lw_goodIn {w0 : Cond} (h0 : w0 ∈ gT) : GoodIn gT (w0 :: gT) := by
  intro w hw
  rcases List.mem_cons.mp hw with rfl | hw
  · exact ⟨h0, good_of_word (lw_good _ h0)⟩
  · exact ⟨hw, good_of_word (lw_good _ hw)⟩
theorem aT_at {D : va_G} {a : Nat → Nat} {cA : ClassId} {S : TS} {H : Heap} (hP : va_P D classes (wT a cA S) H) : a 0 < H.size := (hP 0 _ rfl).lt
section
variable {p : Program} {l : Launch} {e : Env} {R : Room} {s : State} {m : MethodId} {args : Array Value} {below : List Frame} {meth : Method} {c : Code} {H : Heap} {locs : List Loc} {cells slots : Nat} {Q : State → Prop} {cc : ByteArray} {pc nL : Nat} {ls : Array Slot} {rest st0 : List Value} {D : va_G} {a : Nat → Nat} {cA : ClassId} {own : String} {A : Nat → Prop} {H0 : Heap}
variable {y : MethodName} {bytes : ByteArray} {maxL n index lev : Nat} {ret : Option FieldType} {As : List Value} {r : Int32} {v : Option Value}
/-- a call of a static method of numbers -/
theorem S_call (E : CallFix p m c cc nL s args gT own) (hM : Met l y (Cond.code y bytes maxL ret :: gT) (rmL lev) (fun v _ => v = As.toArray) (QcRead r) 0 0 (fun _ => False)) (K : MemS y bytes maxL ret n) (hl : Cond.methodLink own index y ∈ gT)
    (hR : lev + 1 ≤ R.frames ∧ 8 + (maxL + 11) + 40 * lev ≤ R.locals) (hn : As.length = n) (hsz : ls.size = nL) (hst : st0 = As.reverse ++ rest) (hrm : (rest.map fun v => v.category).sum ≤ 8) (hdg : decode cc pc = .ok (.invokestatic index, 3)) (hf : cells + 0 ≤ R.cells ∧ slots + 0 ≤ R.slots)
    (k : W p l e R s m args below meth c H locs cells slots Q (F0 m (pc + 3) ls (.int r :: rest))) : W p l e R s m args below meth c H locs cells slots Q (F0 m pc ls st0) := by
  subst hst
  exact W.callR (W.runS (As := As) (rest := rest) E hM ⟨callB_of n E.2.2.2.2 (lw_goodIn K.1) rfl rfl rfl (E.2.2.2.2 _ K.2.2.1) (E.2.2.2.2 _ hl) K.2.2.2 hR, E.2.2.2.2 _ K.2.1⟩ preEq rfl hn hsz rfl (lv_room hrm) hdg hf) k

/-- a call that only reads the world -/
theorem T_callR {S : TS} (E : CallFix p m c cc nL s args gT own) (hK : va_K D classes [(cA, .int)] s) (hP : va_P D classes (wT a cA S) H) (hM : Met l y (Cond.code y bytes maxL ret :: gT) (rmL lev) (rPcT D a cA S (.ref (a 0) :: As)) (QcRead r) 0 0 (fun _ => False)) (K : MemV y bytes maxL ret n R_T) (hl : Cond.methodLink own index y ∈ gT)
    (hR : lev + 1 ≤ R.frames ∧ 8 + (maxL + 11) + 40 * lev ≤ R.locals) (hn : As.length = n) (hsz : ls.size = nL) (hst : st0 = As.reverse ++ .ref (a 0) :: rest) (hrm : (rest.map fun v => v.category).sum ≤ 8) (hdg : decode cc pc = .ok (.invokevirtual index, 3)) (hf : cells + 0 ≤ R.cells ∧ slots + 0 ≤ R.slots)
    (k : W p l e R s m args below meth c H locs cells slots Q (F0 m (pc + 3) ls (.int r :: rest))) : W p l e R s m args below meth c H locs cells slots Q (F0 m pc ls st0) := by
  subst hst
  refine W.callR (W.runV (C := R_T) (b := a 0) (As := As) (rest := rest) E hM ⟨callB_of n E.2.2.2.2 (lw_goodIn K.1) rfl rfl rfl (E.2.2.2.2 _ K.2.2.2.1) (E.2.2.2.2 _ hl) K.2.2.2.2 hR, E.2.2.2.2 _ K.2.1, E.2.2.2.2 _ K.2.2.1⟩ ⟨?_, va_recv hK hP (ci := 0) (q0 := 0) rfl rfl, ?_⟩ rfl hn hsz rfl (lv_room hrm) hdg hf) k
  · intro a1 U g mk q
    exact ⟨q.1, q.2.1, va_K.moved (u := U) (U := U.calling g mk a1) (Vm.Alike.refl U.vm) q.2.2⟩
  · intro U hU hW
    exact ⟨rfl, by rw [hU]; exact hP, va_K.moved hW.alike hK⟩
/-- a call that changes the world -/
theorem T_callM {S S' : TS} (E : CallFix p m c cc nL s args gT own) (hK : va_K D classes [(cA, .int)] s) (hD : ∀ S : TS, va_D A (wT a cA S)) (hP : va_P D classes (wT a cA S) H) (hS : va_S A H0 H locs) (hM : Met l y (Cond.code y bytes maxL ret :: gT) (rmL lev) (mPcT D a cA S (.ref (a 0) :: As)) (mQcT D a cA v S') 0 0 (aT a)) (K : MemV y bytes maxL ret n R_T) (hl : Cond.methodLink own index y ∈ gT)
    (hR : lev + 1 ≤ R.frames ∧ 8 + (maxL + 11) + 40 * lev ≤ R.locals) (hn : As.length = n) (hsz : ls.size = nL) (hst : st0 = As.reverse ++ .ref (a 0) :: rest) (hrm : (rest.map fun v => v.category).sum ≤ 8) (hdg : decode cc pc = .ok (.invokevirtual index, 3)) (hf : cells + 0 ≤ R.cells ∧ slots + 0 ≤ R.slots)
    (k : ∀ (H1 : Heap) (locs1 : List Loc), va_P D classes (wT a cA S') H1 → va_S A H0 H1 locs1 → (∀ q : Nat, q < H.size → ¬ aT a q → H1[q]? = H[q]?) → H.size ≤ H1.size → W p l e R s m args below meth c H1 locs1 cells slots Q (F0 m (pc + 3) ls (v.toList ++ rest))) : W p l e R s m args below meth c H locs cells slots Q (F0 m pc ls st0) := by
  subst hst
  have hA : ∀ q, aT a q → A q := by
    rintro q ⟨i, hi, rfl⟩
    match i, hi with
    | 0, _ => exact (hD S).2 0 _ rfl
    | 1, _ => exact (hD S).2 1 _ rfl
    | 2, _ => exact (hD S).2 2 _ rfl
    | 3, _ => exact (hD S).2 3 _ rfl
    | 4, _ => exact (hD S).2 4 _ rfl
    | 5, _ => exact (hD S).2 5 _ rfl
    | 6, _ => exact (hD S).2 6 _ rfl
    | i + 7, hi => omega
  have hr := va_runV (C := R_T) (b := a 0) (As := As) (rest := rest) (g := F0 m pc ls (As.reverse ++ .ref (a 0) :: rest)) (H := H) (locs := locs) (cells := cells) (slots := slots) (e := e) (below := below) (meth := meth) E hM ⟨callB_of n E.2.2.2.2 (lw_goodIn K.1) rfl rfl rfl (E.2.2.2.2 _ K.2.2.2.1) (E.2.2.2.2 _ hl) K.2.2.2.2 hR, E.2.2.2.2 _ K.2.1, E.2.2.2.2 _ K.2.2.1⟩ ⟨?_, va_recv hK hP (ci := 0) (q0 := 0) rfl rfl, ?_⟩ rfl hn hsz rfl (lv_room hrm) hdg hf
  · intro T hT X
    obtain ⟨v2, st₀, t, T', L, h0, X', hL, e1, e2, ⟨hv, hp, hz, hk⟩, st⟩ := hr T hT X
    cases hv
    rw [h0] at hz hk
    obtain ⟨t2, a1, b1⟩ := k T'.heap (locs ++ L) (by rw [e1]; exact hp)
      ⟨Nat.le_trans hS.1 (by rw [e1]; exact hz), fun q h1 h2 => by rw [e1, hk q (Nat.lt_of_lt_of_le h1 hS.1) (fun z => h2 (hA q z))]; exact hS.2.1 q h1 h2, fun q hq => by
        rcases List.mem_append.mp hq with h | h
        · exact hS.2.2 q h
        · exact hA _ (hL q h)⟩ (fun q h1 h2 => by rw [e1]; exact hk q h1 h2) (by rw [e1]; exact hz) T' rfl X'
    exact ⟨t2, st t2 a1, b1⟩
  · intro a1 U g mk q
    exact ⟨q.1, q.2.1, va_K.moved (u := U) (U := U.calling g mk a1) (Vm.Alike.refl U.vm) q.2.2.1, q.2.2.2⟩
  · intro U hU hW
    exact ⟨rfl, by rw [hU]; exact hP, va_K.moved hW.alike hK, (hD S).weaken (fun _ _ _ _ => trivial)⟩
/-- a call that only reads the world -/
theorem M_callR {S : MS} (E : CallFix p m c cc nL s args gT own) (hK : va_K D classes [(cA, .int)] s) (hP : va_P D classes (wM a cA S) H) (hM : Met l y (Cond.code y bytes maxL ret :: gT) (rmL lev) (rPcM D a cA S (.ref (a 0) :: As)) (QcRead r) 0 0 (fun _ => False)) (K : MemV y bytes maxL ret n R_M) (hl : Cond.methodLink own index y ∈ gT)
    (hR : lev + 1 ≤ R.frames ∧ 8 + (maxL + 11) + 40 * lev ≤ R.locals) (hn : As.length = n) (hsz : ls.size = nL) (hst : st0 = As.reverse ++ .ref (a 0) :: rest) (hrm : (rest.map fun v => v.category).sum ≤ 8) (hdg : decode cc pc = .ok (.invokevirtual index, 3)) (hf : cells + 0 ≤ R.cells ∧ slots + 0 ≤ R.slots)
    (k : W p l e R s m args below meth c H locs cells slots Q (F0 m (pc + 3) ls (.int r :: rest))) : W p l e R s m args below meth c H locs cells slots Q (F0 m pc ls st0) := by
  subst hst
  refine W.callR (W.runV (C := R_M) (b := a 0) (As := As) (rest := rest) E hM ⟨callB_of n E.2.2.2.2 (lw_goodIn K.1) rfl rfl rfl (E.2.2.2.2 _ K.2.2.2.1) (E.2.2.2.2 _ hl) K.2.2.2.2 hR, E.2.2.2.2 _ K.2.1, E.2.2.2.2 _ K.2.2.1⟩ ⟨?_, va_recv hK hP (ci := 1) (q0 := 0) rfl rfl, ?_⟩ rfl hn hsz rfl (lv_room hrm) hdg hf) k
  · intro a1 U g mk q
    exact ⟨q.1, q.2.1, va_K.moved (u := U) (U := U.calling g mk a1) (Vm.Alike.refl U.vm) q.2.2⟩
  · intro U hU hW
    exact ⟨rfl, by rw [hU]; exact hP, va_K.moved hW.alike hK⟩
/-- a call that changes the world -/
theorem M_callM {S S' : MS} (E : CallFix p m c cc nL s args gT own) (hK : va_K D classes [(cA, .int)] s) (hD : ∀ S : MS, va_D A (wM a cA S)) (hP : va_P D classes (wM a cA S) H) (hS : va_S A H0 H locs) (hM : Met l y (Cond.code y bytes maxL ret :: gT) (rmL lev) (mPcM D a cA S (.ref (a 0) :: As)) (mQcM D a cA v S') 0 0 (aM a)) (K : MemV y bytes maxL ret n R_M) (hl : Cond.methodLink own index y ∈ gT)
    (hR : lev + 1 ≤ R.frames ∧ 8 + (maxL + 11) + 40 * lev ≤ R.locals) (hn : As.length = n) (hsz : ls.size = nL) (hst : st0 = As.reverse ++ .ref (a 0) :: rest) (hrm : (rest.map fun v => v.category).sum ≤ 8) (hdg : decode cc pc = .ok (.invokevirtual index, 3)) (hf : cells + 0 ≤ R.cells ∧ slots + 0 ≤ R.slots)
    (k : ∀ (H1 : Heap) (locs1 : List Loc), va_P D classes (wM a cA S') H1 → va_S A H0 H1 locs1 → (∀ q : Nat, q < H.size → ¬ aM a q → H1[q]? = H[q]?) → H.size ≤ H1.size → W p l e R s m args below meth c H1 locs1 cells slots Q (F0 m (pc + 3) ls (v.toList ++ rest))) : W p l e R s m args below meth c H locs cells slots Q (F0 m pc ls st0) := by
  subst hst
  have hA : ∀ q, aM a q → A q := by
    rintro q ⟨i, hi, rfl⟩
    match i, hi with
    | 0, _ => exact (hD S).2 0 _ rfl
    | 1, _ => exact (hD S).2 1 _ rfl
    | 2, _ => exact (hD S).2 2 _ rfl
    | 3, _ => exact (hD S).2 3 _ rfl
    | 4, _ => exact (hD S).2 4 _ rfl
    | 5, _ => exact (hD S).2 5 _ rfl
    | i + 6, hi => omega
  have hr := va_runV (C := R_M) (b := a 0) (As := As) (rest := rest) (g := F0 m pc ls (As.reverse ++ .ref (a 0) :: rest)) (H := H) (locs := locs) (cells := cells) (slots := slots) (e := e) (below := below) (meth := meth) E hM ⟨callB_of n E.2.2.2.2 (lw_goodIn K.1) rfl rfl rfl (E.2.2.2.2 _ K.2.2.2.1) (E.2.2.2.2 _ hl) K.2.2.2.2 hR, E.2.2.2.2 _ K.2.1, E.2.2.2.2 _ K.2.2.1⟩ ⟨?_, va_recv hK hP (ci := 1) (q0 := 0) rfl rfl, ?_⟩ rfl hn hsz rfl (lv_room hrm) hdg hf
  · intro T hT X
    obtain ⟨v2, st₀, t, T', L, h0, X', hL, e1, e2, ⟨hv, hp, hz, hk⟩, st⟩ := hr T hT X
    cases hv
    rw [h0] at hz hk
    obtain ⟨t2, a1, b1⟩ := k T'.heap (locs ++ L) (by rw [e1]; exact hp)
      ⟨Nat.le_trans hS.1 (by rw [e1]; exact hz), fun q h1 h2 => by rw [e1, hk q (Nat.lt_of_lt_of_le h1 hS.1) (fun z => h2 (hA q z))]; exact hS.2.1 q h1 h2, fun q hq => by
        rcases List.mem_append.mp hq with h | h
        · exact hS.2.2 q h
        · exact hA _ (hL q h)⟩ (fun q h1 h2 => by rw [e1]; exact hk q h1 h2) (by rw [e1]; exact hz) T' rfl X'
    exact ⟨t2, st t2 a1, b1⟩
  · intro a1 U g mk q
    exact ⟨q.1, q.2.1, va_K.moved (u := U) (U := U.calling g mk a1) (Vm.Alike.refl U.vm) q.2.2.1, q.2.2.2⟩
  · intro U hU hW
    exact ⟨rfl, by rw [hU]; exact hP, va_K.moved hW.alike hK, (hD S).weaken (fun _ _ _ _ => trivial)⟩
end
section
variable {l : Launch} {y : MethodName} {cc : ByteArray} {maxL lev : Nat} {ret : Option FieldType} {As av : List Value} {r : Int32} {v : Option Value} {D : va_G} {a : Nat → Nat} {cA : ClassId}
theorem S_met (hy : plainName y.cls = true) (hav : (lg_sl As).length ≤ maxL)
    (body : ∀ (p : Program) (e : Env) (s : State) (m : MethodId) (below : List Frame) (meth : Method) (c : Code) (ls : Array Slot), CallFix p m c cc maxL s As.toArray gT y.cls → meth.sig.returnType = ret → meth.locks = false → lv_has ls maxL (lv_args 0 As) → W p l e (rmL lev) s m As.toArray below meth c s.heap [] 0 0 (MQ below (QcRead r) As.toArray s 0 0 (fun _ => False)) (F0 m 0 ls [])) :
    Met l y (Cond.code y cc maxL ret :: gT) (rmL lev) (fun v _ => v = As.toArray) (QcRead r) 0 0 (fun _ => False) := by
  refine Met.ofW (cc := cc) (maxL := maxL) (ret := ret) hy rfl ?_
  intro p e s m args below meth c s₁ B hml hv
  obtain rfl := hv
  rw [lg_entry_eq]
  exact body p e s m below meth c _ ⟨B.exec, B.bytes, hml, findClass_of_methodNamed B.named, fun w hw => atoms_spec (ws := Cond.code y cc maxL ret :: gT) B.pre w (List.mem_cons_of_mem _ hw)⟩ B.returns B.notSynchronized (lv_entry As hav)
theorem T_metR {S : TS} (hy : plainName y.cls = true) (hav : (lg_sl av).length ≤ maxL)
    (body : ∀ (p : Program) (e : Env) (s : State) (m : MethodId) (below : List Frame) (meth : Method) (c : Code) (ls : Array Slot), CallFix p m c cc maxL s av.toArray gT y.cls → meth.sig.returnType = ret → meth.locks = false → va_P D classes (wT a cA S) s.heap → va_K D classes [(cA, .int)] s → lv_has ls maxL (lv_args 0 av) → W p l e (rmL lev) s m av.toArray below meth c s.heap [] 0 0 (MQ below (QcRead r) av.toArray s 0 0 (fun _ => False)) (F0 m 0 ls [])) :
    Met l y (Cond.code y cc maxL ret :: gT) (rmL lev) (rPcT D a cA S av) (QcRead r) 0 0 (fun _ => False) := by
  refine Met.ofW (cc := cc) (maxL := maxL) (ret := ret) hy rfl ?_
  intro p e s m args below meth c s₁ B hml hv
  obtain ⟨rfl, hP, hK⟩ := hv
  rw [lg_entry_eq]
  exact body p e s m below meth c _ ⟨B.exec, B.bytes, hml, findClass_of_methodNamed B.named, fun w hw => atoms_spec (ws := Cond.code y cc maxL ret :: gT) B.pre w (List.mem_cons_of_mem _ hw)⟩ B.returns B.notSynchronized hP hK (lv_entry av hav)
theorem T_metM {S S' : TS} (hy : plainName y.cls = true) (hav : (lg_sl av).length ≤ maxL)
    (body : ∀ (p : Program) (e : Env) (s : State) (m : MethodId) (below : List Frame) (meth : Method) (c : Code) (ls : Array Slot), CallFix p m c cc maxL s av.toArray gT y.cls → meth.sig.returnType = ret → meth.locks = false → va_P D classes (wT a cA S) s.heap → va_K D classes [(cA, .int)] s → (∀ S : TS, va_D (aT a) (wT a cA S)) → va_S (aT a) s.heap s.heap [] → lv_has ls maxL (lv_args 0 av) → W p l e (rmL lev) s m av.toArray below meth c s.heap [] 0 0 (MQ below (mQcT D a cA v S') av.toArray s 0 0 (aT a)) (F0 m 0 ls [])) :
    Met l y (Cond.code y cc maxL ret :: gT) (rmL lev) (mPcT D a cA S av) (mQcT D a cA v S') 0 0 (aT a) := by
  refine Met.ofW (cc := cc) (maxL := maxL) (ret := ret) hy rfl ?_
  intro p e s m args below meth c s₁ B hml hv
  obtain ⟨rfl, hP, hK, hD⟩ := hv
  rw [lg_entry_eq]
  exact body p e s m below meth c _ ⟨B.exec, B.bytes, hml, findClass_of_methodNamed B.named, fun w hw => atoms_spec (ws := Cond.code y cc maxL ret :: gT) B.pre w (List.mem_cons_of_mem _ hw)⟩ B.returns B.notSynchronized hP hK (dU_T hD (fun i hi => ⟨i, hi, rfl⟩)) va_S.rf (lv_entry av hav)
theorem M_metR {S : MS} (hy : plainName y.cls = true) (hav : (lg_sl av).length ≤ maxL)
    (body : ∀ (p : Program) (e : Env) (s : State) (m : MethodId) (below : List Frame) (meth : Method) (c : Code) (ls : Array Slot), CallFix p m c cc maxL s av.toArray gT y.cls → meth.sig.returnType = ret → meth.locks = false → va_P D classes (wM a cA S) s.heap → va_K D classes [(cA, .int)] s → lv_has ls maxL (lv_args 0 av) → W p l e (rmL lev) s m av.toArray below meth c s.heap [] 0 0 (MQ below (QcRead r) av.toArray s 0 0 (fun _ => False)) (F0 m 0 ls [])) :
    Met l y (Cond.code y cc maxL ret :: gT) (rmL lev) (rPcM D a cA S av) (QcRead r) 0 0 (fun _ => False) := by
  refine Met.ofW (cc := cc) (maxL := maxL) (ret := ret) hy rfl ?_
  intro p e s m args below meth c s₁ B hml hv
  obtain ⟨rfl, hP, hK⟩ := hv
  rw [lg_entry_eq]
  exact body p e s m below meth c _ ⟨B.exec, B.bytes, hml, findClass_of_methodNamed B.named, fun w hw => atoms_spec (ws := Cond.code y cc maxL ret :: gT) B.pre w (List.mem_cons_of_mem _ hw)⟩ B.returns B.notSynchronized hP hK (lv_entry av hav)
theorem M_metM {S S' : MS} (hy : plainName y.cls = true) (hav : (lg_sl av).length ≤ maxL)
    (body : ∀ (p : Program) (e : Env) (s : State) (m : MethodId) (below : List Frame) (meth : Method) (c : Code) (ls : Array Slot), CallFix p m c cc maxL s av.toArray gT y.cls → meth.sig.returnType = ret → meth.locks = false → va_P D classes (wM a cA S) s.heap → va_K D classes [(cA, .int)] s → (∀ S : MS, va_D (aM a) (wM a cA S)) → va_S (aM a) s.heap s.heap [] → lv_has ls maxL (lv_args 0 av) → W p l e (rmL lev) s m av.toArray below meth c s.heap [] 0 0 (MQ below (mQcM D a cA v S') av.toArray s 0 0 (aM a)) (F0 m 0 ls [])) :
    Met l y (Cond.code y cc maxL ret :: gT) (rmL lev) (mPcM D a cA S av) (mQcM D a cA v S') 0 0 (aM a) := by
  refine Met.ofW (cc := cc) (maxL := maxL) (ret := ret) hy rfl ?_
  intro p e s m args below meth c s₁ B hml hv
  obtain ⟨rfl, hP, hK, hD⟩ := hv
  rw [lg_entry_eq]
  exact body p e s m below meth c _ ⟨B.exec, B.bytes, hml, findClass_of_methodNamed B.named, fun w hw => atoms_spec (ws := Cond.code y cc maxL ret :: gT) B.pre w (List.mem_cons_of_mem _ hw)⟩ B.returns B.notSynchronized hP hK (dU_M hD (fun i hi => ⟨i, hi, rfl⟩)) va_S.rf (lv_entry av hav)
end
end
section
def FU : Nat := 4096
def j_t_make (S : TS) (x1 x2 x3 : Int32) : Option (Int32 × TS) := gd (okb (sF S) 1001) (some (sF S, uW (uO (uZ (uH (uL (uB (uU (uF S (sZ S (cl (sF S)))) ((sU (uF S (sZ S (cl (sF S))))) + 1)) (cl (sF S)) x1) (cl (sF S)) x2) (cl (sF S)) x3) (cl (sF S)) ((-1))) (cl (sF S)) ((-1))) (cl (sF S)) 0))
def L_t_init_2 : Nat → TS → Int32 → Option (TS)
  | 0, _, _ => none
  | k + 1, S, x1 => if 1001 ≤ x1 then (j_t_make (uU (uF S 0) 0) 0 0 ((-1))).bind (fun q5 => some q5.2) else if 1001 ≤ (x1 + 1) then gd (okb x1 1001) (L_t_init_2 k (uZ S (cl x1) ((-1))) (x1 + 1)) else gd (okb x1 1001) (L_t_init_2 k (uZ S (cl x1) (x1 + 1)) (x1 + 1))
def j_t_init (S : TS) : Option (TS) := L_t_init_2 FU S 0
def j_t_mask (x0 : Int32) : Option (Int32) := if x0 = 0 then some 0 else some (((-1)) <<< ((32 - x0) &&& 31))
def j_t_isPrefix (x0 x1 : Int32) : Option (Int32) := if x1 < 0 then some 0 else if 32 < x1 then some 0 else (j_t_mask x1).bind (fun v4 => if (x0 &&& (v4 ^^^ ((-1)))) = 0 then some 1 else some 0)
def j_x_min (x0 x1 : Int32) : Option (Int32) := if x1 < x0 then some x1 else some x0
def j_i_nlz (x0 : Int32) : Option (Int32) := if 0 < x0 then if x0 < 65536 then if x0 < 256 then if x0 < 16 then if x0 < 4 then some (31 - ((Int32.toUInt32 x0 >>> (Int32.toUInt32 1 &&& Int32.toUInt32 31)).toInt32)) else some ((31 + (-2)) - ((Int32.toUInt32 ((Int32.toUInt32 x0 >>> (Int32.toUInt32 2 &&& Int32.toUInt32 31)).toInt32) >>> (Int32.toUInt32 1 &&& Int32.toUInt32 31)).toInt32)) else if ((Int32.toUInt32 x0 >>> (Int32.toUInt32 4 &&& Int32.toUInt32 31)).toInt32) < 4 then some ((31 + (-4)) - ((Int32.toUInt32 ((Int32.toUInt32 x0 >>> (Int32.toUInt32 4 &&& Int32.toUInt32 31)).toInt32) >>> (Int32.toUInt32 1 &&& Int32.toUInt32 31)).toInt32)) else some (((31 + (-4)) + (-2)) - ((Int32.toUInt32 ((Int32.toUInt32 ((Int32.toUInt32 x0 >>> (Int32.toUInt32 4 &&& Int32.toUInt32 31)).toInt32) >>> (Int32.toUInt32 2 &&& Int32.toUInt32 31)).toInt32) >>> (Int32.toUInt32 1 &&& Int32.toUInt32 31)).toInt32)) else if ((Int32.toUInt32 x0 >>> (Int32.toUInt32 8 &&& Int32.toUInt32 31)).toInt32) < 16 then if ((Int32.toUInt32 x0 >>> (Int32.toUInt32 8 &&& Int32.toUInt32 31)).toInt32) < 4 then some ((31 + (-8)) - ((Int32.toUInt32 ((Int32.toUInt32 x0 >>> (Int32.toUInt32 8 &&& Int32.toUInt32 31)).toInt32) >>> (Int32.toUInt32 1 &&& Int32.toUInt32 31)).toInt32)) else some (((31 + (-8)) + (-2)) - ((Int32.toUInt32 ((Int32.toUInt32 ((Int32.toUInt32 x0 >>> (Int32.toUInt32 8 &&& Int32.toUInt32 31)).toInt32) >>> (Int32.toUInt32 2 &&& Int32.toUInt32 31)).toInt32) >>> (Int32.toUInt32 1 &&& Int32.toUInt32 31)).toInt32)) else if ((Int32.toUInt32 ((Int32.toUInt32 x0 >>> (Int32.toUInt32 8 &&& Int32.toUInt32 31)).toInt32) >>> (Int32.toUInt32 4 &&& Int32.toUInt32 31)).toInt32) < 4 then some (((31 + (-8)) + (-4)) - ((Int32.toUInt32 ((Int32.toUInt32 ((Int32.toUInt32 x0 >>> (Int32.toUInt32 8 &&& Int32.toUInt32 31)).toInt32) >>> (Int32.toUInt32 4 &&& Int32.toUInt32 31)).toInt32) >>> (Int32.toUInt32 1 &&& Int32.toUInt32 31)).toInt32)) else some ((((31 + (-8)) + (-4)) + (-2)) - ((Int32.toUInt32 ((Int32.toUInt32 ((Int32.toUInt32 ((Int32.toUInt32 x0 >>> (Int32.toUInt32 8 &&& Int32.toUInt32 31)).toInt32) >>> (Int32.toUInt32 4 &&& Int32.toUInt32 31)).toInt32) >>> (Int32.toUInt32 2 &&& Int32.toUInt32 31)).toInt32) >>> (Int32.toUInt32 1 &&& Int32.toUInt32 31)).toInt32)) else if ((Int32.toUInt32 x0 >>> (Int32.toUInt32 16 &&& Int32.toUInt32 31)).toInt32) < 256 then if ((Int32.toUInt32 x0 >>> (Int32.toUInt32 16 &&& Int32.toUInt32 31)).toInt32) < 16 then if ((Int32.toUInt32 x0 >>> (Int32.toUInt32 16 &&& Int32.toUInt32 31)).toInt32) < 4 then some ((31 + (-16)) - ((Int32.toUInt32 ((Int32.toUInt32 x0 >>> (Int32.toUInt32 16 &&& Int32.toUInt32 31)).toInt32) >>> (Int32.toUInt32 1 &&& Int32.toUInt32 31)).toInt32)) else some (((31 + (-16)) + (-2)) - ((Int32.toUInt32 ((Int32.toUInt32 ((Int32.toUInt32 x0 >>> (Int32.toUInt32 16 &&& Int32.toUInt32 31)).toInt32) >>> (Int32.toUInt32 2 &&& Int32.toUInt32 31)).toInt32) >>> (Int32.toUInt32 1 &&& Int32.toUInt32 31)).toInt32)) else if ((Int32.toUInt32 ((Int32.toUInt32 x0 >>> (Int32.toUInt32 16 &&& Int32.toUInt32 31)).toInt32) >>> (Int32.toUInt32 4 &&& Int32.toUInt32 31)).toInt32) < 4 then some (((31 + (-16)) + (-4)) - ((Int32.toUInt32 ((Int32.toUInt32 ((Int32.toUInt32 x0 >>> (Int32.toUInt32 16 &&& Int32.toUInt32 31)).toInt32) >>> (Int32.toUInt32 4 &&& Int32.toUInt32 31)).toInt32) >>> (Int32.toUInt32 1 &&& Int32.toUInt32 31)).toInt32)) else some ((((31 + (-16)) + (-4)) + (-2)) - ((Int32.toUInt32 ((Int32.toUInt32 ((Int32.toUInt32 ((Int32.toUInt32 x0 >>> (Int32.toUInt32 16 &&& Int32.toUInt32 31)).toInt32) >>> (Int32.toUInt32 4 &&& Int32.toUInt32 31)).toInt32) >>> (Int32.toUInt32 2 &&& Int32.toUInt32 31)).toInt32) >>> (Int32.toUInt32 1 &&& Int32.toUInt32 31)).toInt32)) else if ((Int32.toUInt32 ((Int32.toUInt32 x0 >>> (Int32.toUInt32 16 &&& Int32.toUInt32 31)).toInt32) >>> (Int32.toUInt32 8 &&& Int32.toUInt32 31)).toInt32) < 16 then if ((Int32.toUInt32 ((Int32.toUInt32 x0 >>> (Int32.toUInt32 16 &&& Int32.toUInt32 31)).toInt32) >>> (Int32.toUInt32 8 &&& Int32.toUInt32 31)).toInt32) < 4 then some (((31 + (-16)) + (-8)) - ((Int32.toUInt32 ((Int32.toUInt32 ((Int32.toUInt32 x0 >>> (Int32.toUInt32 16 &&& Int32.toUInt32 31)).toInt32) >>> (Int32.toUInt32 8 &&& Int32.toUInt32 31)).toInt32) >>> (Int32.toUInt32 1 &&& Int32.toUInt32 31)).toInt32)) else some ((((31 + (-16)) + (-8)) + (-2)) - ((Int32.toUInt32 ((Int32.toUInt32 ((Int32.toUInt32 ((Int32.toUInt32 x0 >>> (Int32.toUInt32 16 &&& Int32.toUInt32 31)).toInt32) >>> (Int32.toUInt32 8 &&& Int32.toUInt32 31)).toInt32) >>> (Int32.toUInt32 2 &&& Int32.toUInt32 31)).toInt32) >>> (Int32.toUInt32 1 &&& Int32.toUInt32 31)).toInt32)) else if ((Int32.toUInt32 ((Int32.toUInt32 ((Int32.toUInt32 x0 >>> (Int32.toUInt32 16 &&& Int32.toUInt32 31)).toInt32) >>> (Int32.toUInt32 8 &&& Int32.toUInt32 31)).toInt32) >>> (Int32.toUInt32 4 &&& Int32.toUInt32 31)).toInt32) < 4 then some ((((31 + (-16)) + (-8)) + (-4)) - ((Int32.toUInt32 ((Int32.toUInt32 ((Int32.toUInt32 ((Int32.toUInt32 x0 >>> (Int32.toUInt32 16 &&& Int32.toUInt32 31)).toInt32) >>> (Int32.toUInt32 8 &&& Int32.toUInt32 31)).toInt32) >>> (Int32.toUInt32 4 &&& Int32.toUInt32 31)).toInt32) >>> (Int32.toUInt32 1 &&& Int32.toUInt32 31)).toInt32)) else some (((((31 + (-16)) + (-8)) + (-4)) + (-2)) - ((Int32.toUInt32 ((Int32.toUInt32 ((Int32.toUInt32 ((Int32.toUInt32 ((Int32.toUInt32 x0 >>> (Int32.toUInt32 16 &&& Int32.toUInt32 31)).toInt32) >>> (Int32.toUInt32 8 &&& Int32.toUInt32 31)).toInt32) >>> (Int32.toUInt32 4 &&& Int32.toUInt32 31)).toInt32) >>> (Int32.toUInt32 2 &&& Int32.toUInt32 31)).toInt32) >>> (Int32.toUInt32 1 &&& Int32.toUInt32 31)).toInt32)) else if x0 = 0 then some 32 else some 0
def j_t_common (x0 x1 x2 x3 : Int32) : Option (Int32) := (j_x_min x1 x3).bind (fun v2 => (j_i_nlz (x0 ^^^ x2)).bind (fun v4 => (j_x_min v2 v4).bind (fun v6 => some (if v4 < v2 then v4 else v2))))
def j_t_bit (x0 x1 : Int32) : Option (Int32) := if ((x0 >>> ((31 - x1) &&& 31)) &&& 1) = 1 then some 1 else some 0
def j_t_child (S : TS) (x1 x2 : Int32) : Option (Int32) := gd (okb x1 1001) ((j_t_bit x2 (sL S (cl x1))).bind (fun v3 => if v3 = 0 then some (sZ S (cl x1)) else some (sO S (cl x1))))
def L_t_find_2 (S : TS) (x1 x2 : Int32) : Nat → Int32 → Option (Int32)
  | 0, _ => none
  | k + 1, x3 => if x3 = ((-1)) then some x3 else gd (okb x3 1001) (if x2 ≤ (sL S (cl x3)) then some x3 else (j_t_common (sB S (cl x3)) (sL S (cl x3)) x1 x2).bind (fun v5 => if v5 = (sL S (cl x3)) then (j_t_child S x3 x1).bind (fun v8 => L_t_find_2 S x1 x2 k v8) else some x3))
def j_t_find (S : TS) (x1 x2 : Int32) : Option (Int32) := (L_t_find_2 S x1 x2 FU 0).bind (fun y9 => if y9 = ((-1)) then some ((-1)) else gd (okb y9 1001) (if (sL S (cl y9)) = x2 then if (sB S (cl y9)) = x1 then some y9 else some ((-1)) else some ((-1))))
def j_t_hang (S : TS) (x1 x2 x3 : Int32) : Option (TS) := gd (okb x1 1001) ((j_t_bit x3 (sL S (cl x1))).bind (fun v3 => if v3 = 0 then some (uZ S (cl x1) x2) else some (uO S (cl x1) x2)))
def L_t_enter_11 (S : TS) (x1 x2 x3 : Int32) : Nat → Int32 → Int32 → Option (Int32 × Int32)
  | 0, _, _ => none
  | k + 1, x4, x5 => if x5 = ((-1)) then some (x4, x5) else gd (okb x5 1001) (if x2 ≤ (sL S (cl x5)) then some (x4, x5) else (j_t_common (sB S (cl x5)) (sL S (cl x5)) x1 x2).bind (fun v7 => if v7 = (sL S (cl x5)) then (j_t_child S x5 x1).bind (fun v10 => L_t_enter_11 S x1 x2 x3 k x5 v10) else some (x4, x5)))
def j_t_enter (S : TS) (x1 x2 x3 : Int32) : Option (TS) := (j_t_child S 0 x1).bind (fun v2 => (L_t_enter_11 S x1 x2 x3 FU 0 v2).bind (fun y11 => (j_t_make S x1 x2 x3).bind (fun q16 => if y11.2 = ((-1)) then (j_t_hang q16.2 y11.1 q16.1 x1).bind (fun S41 => some S41) else gd (okb y11.2 1001) ((j_t_common (sB q16.2 (cl y11.2)) (sL q16.2 (cl y11.2)) x1 x2).bind (fun v20 => if v20 = x2 then (j_t_hang q16.2 q16.1 y11.2 (sB q16.2 (cl y11.2))).bind (fun S36 => gd (okb q16.1 1001) ((j_t_hang (uW S36 (cl q16.1) (sW S36 (cl y11.2))) y11.1 q16.1 x1).bind (fun S39 => some S39))) else (j_t_mask v20).bind (fun v23 => (j_t_make q16.2 (x1 &&& v23) v20 ((-1))).bind (fun q27 => (j_t_hang q27.2 q27.1 y11.2 (sB q27.2 (cl y11.2))).bind (fun S29 => (j_t_hang S29 q27.1 q16.1 x1).bind (fun S31 => gd (okb q27.1 1001) ((j_t_hang (uW S31 (cl q27.1) (sW S31 (cl y11.2))) y11.1 q27.1 x1).bind (fun S34 => some S34)))))))))))
def L_t_tell_3 (x1 x2 x3 : Int32) : Nat → TS → Int32 → Option (TS)
  | 0, _, _ => none
  | k + 1, S, x4 => gd (okb x4 1001) (if x2 ≤ (sL S (cl x4)) then some (uW S (cl x4) ((sW S (cl x4)) + x3)) else (j_t_child (uW S (cl x4) ((sW S (cl x4)) + x3)) x4 x1).bind (fun v4 => L_t_tell_3 x1 x2 x3 k (uW S (cl x4) ((sW S (cl x4)) + x3)) v4))
def j_t_tell (S : TS) (x1 x2 x3 : Int32) : Option (TS) := L_t_tell_3 x1 x2 x3 FU S 0
def j_t_insert (S : TS) (x1 x2 x3 : Int32) : Option (Int32 × TS) := (j_t_isPrefix x1 x2).bind (fun v2 => if v2 = 0 then some ((-1), S) else if 0 ≤ x3 then (j_t_find S x1 x2).bind (fun v6 => if v6 = ((-1)) then gd (okb 0 1001) (if (sW S (cl 0)) = 500 then some ((-2), S) else (j_t_enter S x1 x2 x3).bind (fun S12 => (j_t_tell S12 x1 x2 1).bind (fun S14 => some (1, S14)))) else gd (okb v6 1001) (if (sH S (cl v6)) = ((-1)) then gd (okb 0 1001) (if (sW S (cl 0)) = 500 then some ((-2), S) else (j_t_tell (uH S (cl v6) x3) x1 x2 1).bind (fun S21 => some (1, S21))) else some (0, uH S (cl v6) x3))) else some ((-1), S))
def j_t_drop (S : TS) (x1 : Int32) : Option (TS) := gd (okb x1 1001) (some (uU (uF (uZ S (cl x1) (sF S)) x1) ((sU (uF (uZ S (cl x1) (sF S)) x1)) - 1)))
def L_t_settle_37 (S : TS) (x1 : Int32) : Nat → Int32 → Option (Int32)
  | 0, _ => none
  | k + 1, x2 => gd (okb x1 1001) ((j_t_child S x2 (sB S (cl x1))).bind (fun v7 => if v7 = x1 then some x2 else (j_t_child S x2 (sB S (cl x1))).bind (fun v10 => L_t_settle_37 S x1 k v10)))
def j_t_settle : Nat → TS → Int32 → Option (TS)
  | 0, _, _ => none
  | k + 1, S, x1 => if x1 = 0 then some S else gd (okb x1 1001) (if (sH S (cl x1)) = ((-1)) then if (sZ S (cl x1)) = ((-1)) then (L_t_settle_37 S x1 FU 0).bind (fun y11 => (j_t_hang S y11 (sO S (cl x1)) (sB S (cl x1))).bind (fun S15 => (j_t_drop S15 x1).bind (fun S17 => (j_t_settle k S17 y11).bind (fun S19 => some S19)))) else if (sO S (cl x1)) = ((-1)) then (L_t_settle_37 S x1 FU 0).bind (fun y21 => (j_t_hang S y21 (sZ S (cl x1)) (sB S (cl x1))).bind (fun S25 => (j_t_drop S25 x1).bind (fun S27 => (j_t_settle k S27 y21).bind (fun S29 => some S29)))) else some S else some S)
def j_t_remove (S : TS) (x1 x2 : Int32) : Option (Int32 × TS) := (j_t_isPrefix x1 x2).bind (fun v2 => if v2 = 0 then some (0, S) else (j_t_find S x1 x2).bind (fun v5 => if v5 = ((-1)) then some (0, S) else gd (okb v5 1001) (if (sH S (cl v5)) = ((-1)) then some (0, S) else (j_t_tell S x1 x2 ((-1))).bind (fun S10 => (j_t_settle 40 (uH S10 (cl v5) ((-1))) v5).bind (fun S12 => some (1, S12))))))
def L_t_match_4 (S : TS) (x1 : Int32) : Nat → Int32 → Int32 → Option (Int32)
  | 0, _, _ => none
  | k + 1, x2, x3 => if x3 = ((-1)) then some x2 else gd (okb x3 1001) ((j_t_mask (sL S (cl x3))).bind (fun v4 => if (x1 &&& v4) = (sB S (cl x3)) then if (sH S (cl x3)) = ((-1)) then if (sL S (cl x3)) = 32 then L_t_match_4 S x1 k x2 ((-1)) else (j_t_child S x3 x1).bind (fun v9 => L_t_match_4 S x1 k x2 v9) else if (sL S (cl x3)) = 32 then L_t_match_4 S x1 k x3 ((-1)) else (j_t_child S x3 x1).bind (fun v12 => L_t_match_4 S x1 k x3 v12) else some x2))
def j_t_match (S : TS) (x1 : Int32) : Option (Int32) := L_t_match_4 S x1 FU ((-1)) 0
def j_t_lookup (S : TS) (x1 : Int32) : Option (Int32) := (j_t_match S x1).bind (fun v2 => if v2 = ((-1)) then some ((-1)) else gd (okb v2 1001) (some (sH S (cl v2))))
def j_t_lookupLen (S : TS) (x1 : Int32) : Option (Int32) := (j_t_match S x1).bind (fun v2 => if v2 = ((-1)) then some ((-1)) else gd (okb v2 1001) (some (sL S (cl v2))))
def j_t_exact (S : TS) (x1 x2 : Int32) : Option (Int32) := (j_t_isPrefix x1 x2).bind (fun v2 => if v2 = 0 then some ((-1)) else (j_t_find S x1 x2).bind (fun v6 => if v6 = ((-1)) then some ((-1)) else gd (okb v6 1001) (some (sH S (cl v6)))))
def L_t_under_12 (S : TS) (x1 x2 : Int32) : Nat → Int32 → Option (Int32)
  | 0, _ => none
  | k + 1, x3 => if x3 = ((-1)) then some x3 else gd (okb x3 1001) (if x2 ≤ (sL S (cl x3)) then some x3 else (j_t_common (sB S (cl x3)) (sL S (cl x3)) x1 x2).bind (fun v8 => if v8 = (sL S (cl x3)) then (j_t_child S x3 x1).bind (fun v11 => L_t_under_12 S x1 x2 k v11) else some x3))
def j_t_under (S : TS) (x1 x2 : Int32) : Option (Int32) := (j_t_isPrefix x1 x2).bind (fun v2 => if v2 = 0 then some ((-1)) else (L_t_under_12 S x1 x2 FU 0).bind (fun y12 => if y12 = ((-1)) then some 0 else gd (okb y12 1001) (if (sL S (cl y12)) < x2 then some 0 else (j_t_mask x2).bind (fun v18 => if ((sB S (cl y12)) &&& v18) = x1 then some (sW S (cl y12)) else some 0))))
def L_t_route_21 (S : TS) (x1 x2 : Int32) : Nat → Int32 → Int32 → Option (Int32 × Int32)
  | 0, _, _ => none
  | k + 1, x3, x4 => gd (okb x4 1001) (if (sH S (cl x4)) = ((-1)) then if (sZ S (cl x4)) = ((-1)) then if x3 < 0 then L_t_route_21 S x1 x2 k x3 (sZ S (cl x4)) else L_t_route_21 S x1 x2 k (x3 - 0) (sO S (cl x4)) else gd (okb (sZ S (cl x4)) 1001) (if x3 < (sW S (cl (sZ S (cl x4)))) then L_t_route_21 S x1 x2 k x3 (sZ S (cl x4)) else L_t_route_21 S x1 x2 k (x3 - (sW S (cl (sZ S (cl x4))))) (sO S (cl x4))) else if x3 ≤ 0 then some (x3, x4) else if (sZ S (cl x4)) = ((-1)) then if (x3 + (-1)) < 0 then L_t_route_21 S x1 x2 k (x3 + (-1)) (sZ S (cl x4)) else L_t_route_21 S x1 x2 k ((x3 + (-1)) - 0) (sO S (cl x4)) else gd (okb (sZ S (cl x4)) 1001) (if (x3 + (-1)) < (sW S (cl (sZ S (cl x4)))) then L_t_route_21 S x1 x2 k (x3 + (-1)) (sZ S (cl x4)) else L_t_route_21 S x1 x2 k ((x3 + (-1)) - (sW S (cl (sZ S (cl x4))))) (sO S (cl x4))))
def j_t_route (S : TS) (x1 x2 : Int32) : Option (Int32) := if x1 < 0 then some 0 else gd (okb 0 1001) (if x1 < (sW S (cl 0)) then (L_t_route_21 S x1 x2 FU x1 0).bind (fun y33 => if x2 = 0 then gd (okb y33.2 1001) (some (sB S (cl y33.2))) else if x2 = 1 then gd (okb y33.2 1001) (some (sL S (cl y33.2))) else if x2 = 2 then gd (okb y33.2 1001) (some (sH S (cl y33.2))) else some 0) else some 0)
def j_t_count (S : TS) : Option (Int32) := gd (okb 0 1001) (some (sW S (cl 0)))
def j_t_nodes (S : TS) : Option (Int32) := some (sU S)
def L_t_depth_4 (S : TS) (x1 : Int32) : Nat → Int32 → Int32 → Option (Int32)
  | 0, _, _ => none
  | k + 1, x2, x3 => if x3 = ((-1)) then some x2 else gd (okb x3 1001) ((j_t_mask (sL S (cl x3))).bind (fun v4 => if (x1 &&& v4) = (sB S (cl x3)) then if (sL S (cl x3)) = 32 then L_t_depth_4 S x1 k (x2 + 1) ((-1)) else (j_t_child S x3 x1).bind (fun v8 => L_t_depth_4 S x1 k (x2 + 1) v8) else some x2))
def j_t_depth (S : TS) (x1 : Int32) : Option (Int32) := L_t_depth_4 S x1 FU 0 0
def j_m_init (S : MS) : Option (MS) := some (vN (vK S 0) 0)
def j_m_mask (x0 : Int32) : Option (Int32) := if x0 = 0 then some 0 else some (((-1)) <<< ((32 - x0) &&& 31))
def j_m_isPrefix (x0 x1 : Int32) : Option (Int32) := if x1 < 0 then some 0 else if 32 < x1 then some 0 else if x1 ≤ 32 then (j_m_mask x1).bind (fun v6 => if (x0 &&& (v6 ^^^ ((-1)))) = 0 then some 1 else some 0) else (j_m_mask 0).bind (fun v9 => if (x0 &&& (v9 ^^^ ((-1)))) = 0 then some 1 else some 0)
def L_m_find_2 (S : MS) (x1 x2 : Int32) : Nat → Int32 → Option (Int32)
  | 0, _ => none
  | k + 1, x3 => if (mN S) ≤ x3 then some ((-1)) else gd (okb x3 500) (if (mB S (cl x3)) = x1 then if (mL S (cl x3)) = x2 then some x3 else L_m_find_2 S x1 x2 k (x3 + 1) else L_m_find_2 S x1 x2 k (x3 + 1))
def j_m_find (S : MS) (x1 x2 : Int32) : Option (Int32) := L_m_find_2 S x1 x2 FU 0
def j_m_isBefore (S : MS) (x1 x2 x3 : Int32) : Option (Int32) := gd (okb x3 500) (if (x1 ^^^ ((-2147483648))) = ((mB S (cl x3)) ^^^ ((-2147483648))) then if (mL S (cl x3)) ≤ x2 then some 0 else some 1 else if ((mB S (cl x3)) ^^^ ((-2147483648))) ≤ (x1 ^^^ ((-2147483648))) then some 0 else some 1)
def L_m_insert_62 (x1 x2 x3 x4 : Int32) : Nat → MS → Int32 → Option (Int32 × MS)
  | 0, _, _ => none
  | k + 1, S, x5 => if x5 ≤ 0 then gd (okb x5 500) (some (1, vN (vH (vL (vB S (cl x5) x1) (cl x5) x2) (cl x5) x3) ((mN (vH (vL (vB S (cl x5) x1) (cl x5) x2) (cl x5) x3)) + 1))) else (j_m_isBefore S x1 x2 (x5 - 1)).bind (fun v12 => if v12 = 0 then gd (okb x5 500) (some (1, vN (vH (vL (vB S (cl x5) x1) (cl x5) x2) (cl x5) x3) ((mN (vH (vL (vB S (cl x5) x1) (cl x5) x2) (cl x5) x3)) + 1))) else gd (okb (x5 - 1) 500) (gd (okb x5 500) (L_m_insert_62 x1 x2 x3 x4 k (vH (vL (vB S (cl x5) (mB S (cl (x5 - 1)))) (cl x5) (mL (vB S (cl x5) (mB S (cl (x5 - 1)))) (cl (x5 - 1)))) (cl x5) (mH (vL (vB S (cl x5) (mB S (cl (x5 - 1)))) (cl x5) (mL (vB S (cl x5) (mB S (cl (x5 - 1)))) (cl (x5 - 1)))) (cl (x5 - 1)))) (x5 + (-1)))))
def j_m_insert (S : MS) (x1 x2 x3 : Int32) : Option (Int32 × MS) := (j_m_isPrefix x1 x2).bind (fun v2 => if v2 = 0 then some ((-1), vK S 0) else if 0 ≤ x3 then (j_m_find (vK S 0) x1 x2).bind (fun v6 => if v6 = ((-1)) then if (mN (vK S 0)) = 500 then some ((-2), vK S 0) else L_m_insert_62 x1 x2 x3 v6 FU (vK S 0) (mN (vK S 0)) else gd (okb v6 500) (some (0, vH (vK S 0) (cl v6) x3))) else some ((-1), vK S 0))
def L_m_remove_22 (x1 x2 x3 : Int32) : Nat → MS → Int32 → Option (Int32 × MS)
  | 0, _, _ => none
  | k + 1, S, x4 => if (mN S) ≤ (x4 + 1) then some (1, vN S ((mN S) - 1)) else gd (okb (x4 + 1) 500) (gd (okb x4 500) (L_m_remove_22 x1 x2 x3 k (vH (vL (vB S (cl x4) (mB S (cl (x4 + 1)))) (cl x4) (mL (vB S (cl x4) (mB S (cl (x4 + 1)))) (cl (x4 + 1)))) (cl x4) (mH (vL (vB S (cl x4) (mB S (cl (x4 + 1)))) (cl x4) (mL (vB S (cl x4) (mB S (cl (x4 + 1)))) (cl (x4 + 1)))) (cl (x4 + 1)))) (x4 + 1)))
def j_m_remove (S : MS) (x1 x2 : Int32) : Option (Int32 × MS) := (j_m_find (vK S 0) x1 x2).bind (fun v2 => if v2 = ((-1)) then some (0, vK S 0) else L_m_remove_22 x1 x2 v2 FU (vK S 0) v2)
def j_m_begins (x0 x1 x2 : Int32) : Option (Int32) := (j_m_mask x2).bind (fun v2 => if (x0 &&& v2) = x1 then some 1 else some 0)
def L_m_longest_4 (S : MS) (x1 : Int32) : Nat → Int32 → Int32 → Option (Int32)
  | 0, _, _ => none
  | k + 1, x2, x3 => if (mN S) ≤ x3 then some x2 else gd (okb x3 500) ((j_m_begins x1 (mB S (cl x3)) (mL S (cl x3))).bind (fun v4 => if v4 = 0 then L_m_longest_4 S x1 k x2 (x3 + 1) else if x2 = ((-1)) then L_m_longest_4 S x1 k x3 (x3 + 1) else gd (okb x2 500) (if (mL S (cl x3)) ≤ (mL S (cl x2)) then L_m_longest_4 S x1 k x2 (x3 + 1) else L_m_longest_4 S x1 k x3 (x3 + 1))))
def j_m_longest (S : MS) (x1 : Int32) : Option (Int32) := L_m_longest_4 S x1 FU ((-1)) 0
def j_m_lookup (S : MS) (x1 : Int32) : Option (Int32 × MS) := (j_m_longest (vK S 0) x1).bind (fun v2 => if v2 = ((-1)) then some ((-1), vK S 0) else gd (okb v2 500) (some (mH (vK S 0) (cl v2), vK S 0)))
def j_m_lookupLen (S : MS) (x1 : Int32) : Option (Int32 × MS) := (j_m_longest (vK S 0) x1).bind (fun v2 => if v2 = ((-1)) then some ((-1), vK S 0) else gd (okb v2 500) (some (mL (vK S 0) (cl v2), vK S 0)))
def j_m_exact (S : MS) (x1 x2 : Int32) : Option (Int32 × MS) := (j_m_find (vK S 0) x1 x2).bind (fun v2 => if v2 = ((-1)) then some ((-1), vK S 0) else gd (okb v2 500) (some (mH (vK S 0) (cl v2), vK S 0)))
def L_m_under_20 (x1 x2 : Int32) : Nat → MS → Int32 → Int32 → Option (Int32 × MS)
  | 0, _, _, _ => none
  | k + 1, S, x3, x4 => if (mN S) ≤ x4 then some (x3, S) else gd (okb x4 500) (if (mL S (cl x4)) < x2 then L_m_under_20 x1 x2 k S (x3 + 0) (x4 + 1) else (j_m_begins (mB S (cl x4)) x1 x2).bind (fun v8 => if v8 = 0 then L_m_under_20 x1 x2 k S (x3 + 0) (x4 + 1) else L_m_under_20 x1 x2 k S (x3 + 1) (x4 + 1)))
def j_m_under (S : MS) (x1 x2 : Int32) : Option (Int32 × MS) := (j_m_isPrefix x1 x2).bind (fun v2 => if v2 = 0 then some ((-1), vK S 0) else L_m_under_20 x1 x2 FU (vK S 0) 0 0)
def j_m_route (S : MS) (x1 x2 : Int32) : Option (Int32 × MS) := if x1 < 0 then some (0, vK S 0) else if x1 < (mN (vK S 0)) then if x2 = 0 then gd (okb x1 500) (some (mB (vK S 0) (cl x1), vK S 0)) else if x2 = 1 then gd (okb x1 500) (some (mL (vK S 0) (cl x1), vK S 0)) else if x2 = 2 then gd (okb x1 500) (some (mH (vK S 0) (cl x1), vK S 0)) else some (0, vK S 0) else some (0, vK S 0)
def j_m_count (S : MS) : Option (Int32 × MS) := some (mN (vK S 0), vK S 0)
def L_m_add_7 (x1 x2 : Int32) : Nat → MS → Int32 → Option (MS)
  | 0, _, _ => none
  | k + 1, S, x3 => if (mC S) ≤ x3 then gd (okb (mC S) 1000) (gd (okb (mC (vP S (cl (mC S)) x1)) 1000) (some (vC (vQ (vP S (cl (mC S)) x1) (cl (mC (vP S (cl (mC S)) x1))) x2) ((mC (vQ (vP S (cl (mC S)) x1) (cl (mC (vP S (cl (mC S)) x1))) x2)) + 1)))) else gd (okb x3 1000) (if (mP S (cl x3)) = x1 then if (mQ S (cl x3)) = x2 then some S else L_m_add_7 x1 x2 k S (x3 + 1) else L_m_add_7 x1 x2 k S (x3 + 1))
def j_m_add (S : MS) (x1 x2 : Int32) : Option (MS) := if x2 = 0 then some S else L_m_add_7 x1 x2 FU S 0
def L_m_findNodes_84 (S : MS) (x1 x2 : Int32) : Nat → Int32 → Option (Int32)
  | 0, _ => none
  | k + 1, x3 => if x2 ≤ x3 then some x3 else gd (okb x1 500) (gd (okb (x1 - 1) 500) (if (((Int32.toUInt32 (mB S (cl x1)) >>> (Int32.toUInt32 (31 - x3) &&& Int32.toUInt32 31)).toInt32) &&& 1) = (((Int32.toUInt32 (mB S (cl (x1 - 1))) >>> (Int32.toUInt32 (31 - x3) &&& Int32.toUInt32 31)).toInt32) &&& 1) then L_m_findNodes_84 S x1 x2 k (x3 + 1) else some x3))
def L_m_findNodes_39 : Nat → MS → Int32 → Option (MS)
  | 0, _, _ => none
  | k + 1, S, x1 => if (mN S) ≤ x1 then some S else gd (okb x1 500) (gd (okb (x1 - 1) 500) (if (mL S (cl (x1 - 1))) ≤ (mL S (cl x1)) then (L_m_findNodes_84 S x1 (mL S (cl (x1 - 1))) FU 0).bind (fun y10 => (j_m_mask y10).bind (fun v13 => (j_m_add S ((mB S (cl x1)) &&& v13) y10).bind (fun S15 => L_m_findNodes_39 k S15 (x1 + 1)))) else (L_m_findNodes_84 S x1 (mL S (cl x1)) FU 0).bind (fun y16 => (j_m_mask y16).bind (fun v19 => (j_m_add S ((mB S (cl x1)) &&& v19) y16).bind (fun S21 => L_m_findNodes_39 k S21 (x1 + 1))))))
def L_m_findNodes_7 : Nat → MS → Int32 → Option (MS)
  | 0, _, _ => none
  | k + 1, S, x1 => if (mN S) ≤ x1 then L_m_findNodes_39 FU S 1 else gd (okb x1 500) ((j_m_add S (mB S (cl x1)) (mL S (cl x1))).bind (fun S24 => L_m_findNodes_7 k S24 (x1 + 1)))
def j_m_findNodes (S : MS) : Option (MS) := L_m_findNodes_7 FU (vC S 0) 0
def j_m_nodes (S : MS) : Option (Int32 × MS) := (j_m_findNodes (vK S 0)).bind (fun S2 => some (1 + (mC S2), S2))
def L_m_depth_13 (x1 : Int32) : Nat → MS → Int32 → Int32 → Option (Int32 × MS)
  | 0, _, _, _ => none
  | k + 1, S, x2, x3 => if (mC S) ≤ x3 then some (x2, S) else gd (okb x3 1000) ((j_m_begins x1 (mP S (cl x3)) (mQ S (cl x3))).bind (fun v6 => if v6 = 0 then L_m_depth_13 x1 k S (x2 + 0) (x3 + 1) else L_m_depth_13 x1 k S (x2 + 1) (x3 + 1)))
def j_m_depth (S : MS) (x1 : Int32) : Option (Int32 × MS) := (j_m_findNodes (vK S 0)).bind (fun S2 => L_m_depth_13 x1 FU S2 1 0)
end
section
def R_law : String := "RouteTrieLaw"
abbrev b_t_make : ByteArray := prog_1_method_7_code
def y_t_make : MethodName := ⟨R_T, "make", "(III)I"⟩
theorem k_t_make : MemV y_t_make b_t_make 5 (some .int) 3 R_T := ⟨gT_of (List.mem_of_getElem? (i := 34) rfl) rfl, by decide +kernel, by decide +kernel, by decide +kernel, by decide +kernel⟩
abbrev b_t_init : ByteArray := prog_1_method_2_code
def y_t_init : MethodName := ⟨R_T, "init", "()V"⟩
theorem k_t_init : MemV y_t_init b_t_init 2 (none) 0 R_T := ⟨gT_of (List.mem_of_getElem? (i := 30) rfl) rfl, by decide +kernel, by decide +kernel, by decide +kernel, by decide +kernel⟩
abbrev b_t_mask : ByteArray := prog_1_method_3_code
def y_t_mask : MethodName := ⟨R_T, "mask", "(I)I"⟩
theorem k_t_mask : MemS y_t_mask b_t_mask 1 (some .int) 1 := ⟨gT_of (List.mem_of_getElem? (i := 71) rfl) rfl, by decide +kernel, by decide +kernel, by decide +kernel⟩
abbrev b_t_isPrefix : ByteArray := prog_1_method_4_code
def y_t_isPrefix : MethodName := ⟨R_T, "isPrefix", "(II)Z"⟩
theorem k_t_isPrefix : MemS y_t_isPrefix b_t_isPrefix 2 (some .boolean) 2 := ⟨gT_of (List.mem_of_getElem? (i := 68) rfl) rfl, by decide +kernel, by decide +kernel, by decide +kernel⟩
abbrev b_x_min : ByteArray := prog_5_method_69_code
def y_x_min : MethodName := ⟨"java/lang/Math", "min", "(II)I"⟩
theorem k_x_min : MemS y_x_min b_x_min 2 (some .int) 2 := ⟨gT_of (List.mem_of_getElem? (i := 81) rfl) rfl, by decide +kernel, by decide +kernel, by decide +kernel⟩
abbrev b_i_nlz : ByteArray := prog_4_method_47_code
def y_i_nlz : MethodName := ⟨"java/lang/Integer", "numberOfLeadingZeros", "(I)I"⟩
theorem k_i_nlz : MemS y_i_nlz b_i_nlz 2 (some .int) 1 := ⟨gT_of (List.mem_of_getElem? (i := 84) rfl) rfl, by decide +kernel, by decide +kernel, by decide +kernel⟩
abbrev b_t_common : ByteArray := prog_1_method_5_code
def y_t_common : MethodName := ⟨R_T, "common", "(IIII)I"⟩
theorem k_t_common : MemS y_t_common b_t_common 4 (some .int) 4 := ⟨gT_of (List.mem_of_getElem? (i := 78) rfl) rfl, by decide +kernel, by decide +kernel, by decide +kernel⟩
abbrev b_t_bit : ByteArray := prog_1_method_6_code
def y_t_bit : MethodName := ⟨R_T, "bit", "(II)Z"⟩
theorem k_t_bit : MemS y_t_bit b_t_bit 2 (some .boolean) 2 := ⟨gT_of (List.mem_of_getElem? (i := 92) rfl) rfl, by decide +kernel, by decide +kernel, by decide +kernel⟩
abbrev b_t_child : ByteArray := prog_1_method_9_code
def y_t_child : MethodName := ⟨R_T, "child", "(II)I"⟩
theorem k_t_child : MemV y_t_child b_t_child 3 (some .int) 2 R_T := ⟨gT_of (List.mem_of_getElem? (i := 89) rfl) rfl, by decide +kernel, by decide +kernel, by decide +kernel, by decide +kernel⟩
abbrev b_t_find : ByteArray := prog_1_method_11_code
def y_t_find : MethodName := ⟨R_T, "find", "(II)I"⟩
theorem k_t_find : MemV y_t_find b_t_find 4 (some .int) 2 R_T := ⟨gT_of (List.mem_of_getElem? (i := 75) rfl) rfl, by decide +kernel, by decide +kernel, by decide +kernel, by decide +kernel⟩
abbrev b_t_hang : ByteArray := prog_1_method_10_code
def y_t_hang : MethodName := ⟨R_T, "hang", "(III)V"⟩
theorem k_t_hang : MemV y_t_hang b_t_hang 4 (none) 3 R_T := ⟨gT_of (List.mem_of_getElem? (i := 100) rfl) rfl, by decide +kernel, by decide +kernel, by decide +kernel, by decide +kernel⟩
abbrev b_t_enter : ByteArray := prog_1_method_14_code
def y_t_enter : MethodName := ⟨R_T, "enter", "(III)V"⟩
theorem k_t_enter : MemV y_t_enter b_t_enter 9 (none) 3 R_T := ⟨gT_of (List.mem_of_getElem? (i := 96) rfl) rfl, by decide +kernel, by decide +kernel, by decide +kernel, by decide +kernel⟩
abbrev b_t_tell : ByteArray := prog_1_method_12_code
def y_t_tell : MethodName := ⟨R_T, "tell", "(III)V"⟩
theorem k_t_tell : MemV y_t_tell b_t_tell 5 (none) 3 R_T := ⟨gT_of (List.mem_of_getElem? (i := 104) rfl) rfl, by decide +kernel, by decide +kernel, by decide +kernel, by decide +kernel⟩
abbrev b_t_insert : ByteArray := prog_1_method_13_code
def y_t_insert : MethodName := ⟨R_T, "insert", "(III)I"⟩
theorem k_t_insert : MemV y_t_insert b_t_insert 5 (some .int) 3 R_T := ⟨gT_of (List.mem_of_getElem? (i := 65) rfl) rfl, by decide +kernel, by decide +kernel, by decide +kernel, by decide +kernel⟩
abbrev b_t_drop : ByteArray := prog_1_method_8_code
def y_t_drop : MethodName := ⟨R_T, "drop", "(I)V"⟩
theorem k_t_drop : MemV y_t_drop b_t_drop 2 (none) 1 R_T := ⟨gT_of (List.mem_of_getElem? (i := 116) rfl) rfl, by decide +kernel, by decide +kernel, by decide +kernel, by decide +kernel⟩
abbrev b_t_settle : ByteArray := prog_1_method_16_code
def y_t_settle : MethodName := ⟨R_T, "settle", "(I)V"⟩
theorem k_t_settle : MemV y_t_settle b_t_settle 3 (none) 1 R_T := ⟨gT_of (List.mem_of_getElem? (i := 112) rfl) rfl, by decide +kernel, by decide +kernel, by decide +kernel, by decide +kernel⟩
abbrev b_t_remove : ByteArray := prog_1_method_15_code
def y_t_remove : MethodName := ⟨R_T, "remove", "(II)Z"⟩
theorem k_t_remove : MemV y_t_remove b_t_remove 4 (some .boolean) 2 R_T := ⟨gT_of (List.mem_of_getElem? (i := 108) rfl) rfl, by decide +kernel, by decide +kernel, by decide +kernel, by decide +kernel⟩
abbrev b_t_match : ByteArray := prog_1_method_17_code
def y_t_match : MethodName := ⟨R_T, "match", "(I)I"⟩
theorem k_t_match : MemV y_t_match b_t_match 4 (some .int) 1 R_T := ⟨gT_of (List.mem_of_getElem? (i := 124) rfl) rfl, by decide +kernel, by decide +kernel, by decide +kernel, by decide +kernel⟩
abbrev b_t_lookup : ByteArray := prog_1_method_18_code
def y_t_lookup : MethodName := ⟨R_T, "lookup", "(I)I"⟩
theorem k_t_lookup : MemV y_t_lookup b_t_lookup 3 (some .int) 1 R_T := ⟨gT_of (List.mem_of_getElem? (i := 120) rfl) rfl, by decide +kernel, by decide +kernel, by decide +kernel, by decide +kernel⟩
abbrev b_t_lookupLen : ByteArray := prog_1_method_19_code
def y_t_lookupLen : MethodName := ⟨R_T, "lookupLen", "(I)I"⟩
theorem k_t_lookupLen : MemV y_t_lookupLen b_t_lookupLen 3 (some .int) 1 R_T := ⟨gT_of (List.mem_of_getElem? (i := 128) rfl) rfl, by decide +kernel, by decide +kernel, by decide +kernel, by decide +kernel⟩
abbrev b_t_exact : ByteArray := prog_1_method_20_code
def y_t_exact : MethodName := ⟨R_T, "exact", "(II)I"⟩
theorem k_t_exact : MemV y_t_exact b_t_exact 4 (some .int) 2 R_T := ⟨gT_of (List.mem_of_getElem? (i := 132) rfl) rfl, by decide +kernel, by decide +kernel, by decide +kernel, by decide +kernel⟩
abbrev b_t_under : ByteArray := prog_1_method_21_code
def y_t_under : MethodName := ⟨R_T, "under", "(II)I"⟩
theorem k_t_under : MemV y_t_under b_t_under 4 (some .int) 2 R_T := ⟨gT_of (List.mem_of_getElem? (i := 136) rfl) rfl, by decide +kernel, by decide +kernel, by decide +kernel, by decide +kernel⟩
abbrev b_t_route : ByteArray := prog_1_method_22_code
def y_t_route : MethodName := ⟨R_T, "route", "(II)I"⟩
theorem k_t_route : MemV y_t_route b_t_route 7 (some .int) 2 R_T := ⟨gT_of (List.mem_of_getElem? (i := 140) rfl) rfl, by decide +kernel, by decide +kernel, by decide +kernel, by decide +kernel⟩
abbrev b_t_count : ByteArray := prog_1_method_23_code
def y_t_count : MethodName := ⟨R_T, "count", "()I"⟩
theorem k_t_count : MemV y_t_count b_t_count 1 (some .int) 0 R_T := ⟨gT_of (List.mem_of_getElem? (i := 144) rfl) rfl, by decide +kernel, by decide +kernel, by decide +kernel, by decide +kernel⟩
abbrev b_t_nodes : ByteArray := prog_1_method_24_code
def y_t_nodes : MethodName := ⟨R_T, "nodes", "()I"⟩
theorem k_t_nodes : MemV y_t_nodes b_t_nodes 1 (some .int) 0 R_T := ⟨gT_of (List.mem_of_getElem? (i := 148) rfl) rfl, by decide +kernel, by decide +kernel, by decide +kernel, by decide +kernel⟩
abbrev b_t_depth : ByteArray := prog_1_method_25_code
def y_t_depth : MethodName := ⟨R_T, "depth", "(I)I"⟩
theorem k_t_depth : MemV y_t_depth b_t_depth 4 (some .int) 1 R_T := ⟨gT_of (List.mem_of_getElem? (i := 152) rfl) rfl, by decide +kernel, by decide +kernel, by decide +kernel, by decide +kernel⟩
abbrev b_m_init : ByteArray := prog_3_method_3_code
def y_m_init : MethodName := ⟨R_M, "init", "()V"⟩
theorem k_m_init : MemV y_m_init b_m_init 1 (none) 0 R_M := ⟨gT_of (List.mem_of_getElem? (i := 187) rfl) rfl, by decide +kernel, by decide +kernel, by decide +kernel, by decide +kernel⟩
abbrev b_m_mask : ByteArray := prog_3_method_4_code
def y_m_mask : MethodName := ⟨R_M, "mask", "(I)I"⟩
theorem k_m_mask : MemS y_m_mask b_m_mask 1 (some .int) 1 := ⟨gT_of (List.mem_of_getElem? (i := 197) rfl) rfl, by decide +kernel, by decide +kernel, by decide +kernel⟩
abbrev b_m_isPrefix : ByteArray := prog_3_method_5_code
def y_m_isPrefix : MethodName := ⟨R_M, "isPrefix", "(II)Z"⟩
theorem k_m_isPrefix : MemS y_m_isPrefix b_m_isPrefix 2 (some .boolean) 2 := ⟨gT_of (List.mem_of_getElem? (i := 194) rfl) rfl, by decide +kernel, by decide +kernel, by decide +kernel⟩
abbrev b_m_find : ByteArray := prog_3_method_8_code
def y_m_find : MethodName := ⟨R_M, "find", "(II)I"⟩
theorem k_m_find : MemV y_m_find b_m_find 4 (some .int) 2 R_M := ⟨gT_of (List.mem_of_getElem? (i := 201) rfl) rfl, by decide +kernel, by decide +kernel, by decide +kernel, by decide +kernel⟩
abbrev b_m_isBefore : ByteArray := prog_3_method_7_code
def y_m_isBefore : MethodName := ⟨R_M, "isBefore", "(III)Z"⟩
theorem k_m_isBefore : MemV y_m_isBefore b_m_isBefore 6 (some .boolean) 3 R_M := ⟨gT_of (List.mem_of_getElem? (i := 205) rfl) rfl, by decide +kernel, by decide +kernel, by decide +kernel, by decide +kernel⟩
abbrev b_m_insert : ByteArray := prog_3_method_9_code
def y_m_insert : MethodName := ⟨R_M, "insert", "(III)I"⟩
theorem k_m_insert : MemV y_m_insert b_m_insert 6 (some .int) 3 R_M := ⟨gT_of (List.mem_of_getElem? (i := 191) rfl) rfl, by decide +kernel, by decide +kernel, by decide +kernel, by decide +kernel⟩
abbrev b_m_remove : ByteArray := prog_3_method_10_code
def y_m_remove : MethodName := ⟨R_M, "remove", "(II)Z"⟩
theorem k_m_remove : MemV y_m_remove b_m_remove 5 (some .boolean) 2 R_M := ⟨gT_of (List.mem_of_getElem? (i := 210) rfl) rfl, by decide +kernel, by decide +kernel, by decide +kernel, by decide +kernel⟩
abbrev b_m_begins : ByteArray := prog_3_method_6_code
def y_m_begins : MethodName := ⟨R_M, "begins", "(III)Z"⟩
theorem k_m_begins : MemS y_m_begins b_m_begins 3 (some .boolean) 3 := ⟨gT_of (List.mem_of_getElem? (i := 221) rfl) rfl, by decide +kernel, by decide +kernel, by decide +kernel⟩
abbrev b_m_longest : ByteArray := prog_3_method_11_code
def y_m_longest : MethodName := ⟨R_M, "longest", "(I)I"⟩
theorem k_m_longest : MemV y_m_longest b_m_longest 4 (some .int) 1 R_M := ⟨gT_of (List.mem_of_getElem? (i := 218) rfl) rfl, by decide +kernel, by decide +kernel, by decide +kernel, by decide +kernel⟩
abbrev b_m_lookup : ByteArray := prog_3_method_12_code
def y_m_lookup : MethodName := ⟨R_M, "lookup", "(I)I"⟩
theorem k_m_lookup : MemV y_m_lookup b_m_lookup 3 (some .int) 1 R_M := ⟨gT_of (List.mem_of_getElem? (i := 214) rfl) rfl, by decide +kernel, by decide +kernel, by decide +kernel, by decide +kernel⟩
abbrev b_m_lookupLen : ByteArray := prog_3_method_13_code
def y_m_lookupLen : MethodName := ⟨R_M, "lookupLen", "(I)I"⟩
theorem k_m_lookupLen : MemV y_m_lookupLen b_m_lookupLen 3 (some .int) 1 R_M := ⟨gT_of (List.mem_of_getElem? (i := 225) rfl) rfl, by decide +kernel, by decide +kernel, by decide +kernel, by decide +kernel⟩
abbrev b_m_exact : ByteArray := prog_3_method_14_code
def y_m_exact : MethodName := ⟨R_M, "exact", "(II)I"⟩
theorem k_m_exact : MemV y_m_exact b_m_exact 4 (some .int) 2 R_M := ⟨gT_of (List.mem_of_getElem? (i := 229) rfl) rfl, by decide +kernel, by decide +kernel, by decide +kernel, by decide +kernel⟩
abbrev b_m_under : ByteArray := prog_3_method_15_code
def y_m_under : MethodName := ⟨R_M, "under", "(II)I"⟩
theorem k_m_under : MemV y_m_under b_m_under 5 (some .int) 2 R_M := ⟨gT_of (List.mem_of_getElem? (i := 233) rfl) rfl, by decide +kernel, by decide +kernel, by decide +kernel, by decide +kernel⟩
abbrev b_m_route : ByteArray := prog_3_method_16_code
def y_m_route : MethodName := ⟨R_M, "route", "(II)I"⟩
theorem k_m_route : MemV y_m_route b_m_route 3 (some .int) 2 R_M := ⟨gT_of (List.mem_of_getElem? (i := 237) rfl) rfl, by decide +kernel, by decide +kernel, by decide +kernel, by decide +kernel⟩
abbrev b_m_count : ByteArray := prog_3_method_17_code
def y_m_count : MethodName := ⟨R_M, "count", "()I"⟩
theorem k_m_count : MemV y_m_count b_m_count 1 (some .int) 0 R_M := ⟨gT_of (List.mem_of_getElem? (i := 241) rfl) rfl, by decide +kernel, by decide +kernel, by decide +kernel, by decide +kernel⟩
abbrev b_m_add : ByteArray := prog_3_method_18_code
def y_m_add : MethodName := ⟨R_M, "add", "(II)V"⟩
theorem k_m_add : MemV y_m_add b_m_add 4 (none) 2 R_M := ⟨gT_of (List.mem_of_getElem? (i := 253) rfl) rfl, by decide +kernel, by decide +kernel, by decide +kernel, by decide +kernel⟩
abbrev b_m_findNodes : ByteArray := prog_3_method_19_code
def y_m_findNodes : MethodName := ⟨R_M, "findNodes", "()V"⟩
theorem k_m_findNodes : MemV y_m_findNodes b_m_findNodes 4 (none) 0 R_M := ⟨gT_of (List.mem_of_getElem? (i := 249) rfl) rfl, by decide +kernel, by decide +kernel, by decide +kernel, by decide +kernel⟩
abbrev b_m_nodes : ByteArray := prog_3_method_20_code
def y_m_nodes : MethodName := ⟨R_M, "nodes", "()I"⟩
theorem k_m_nodes : MemV y_m_nodes b_m_nodes 1 (some .int) 0 R_M := ⟨gT_of (List.mem_of_getElem? (i := 245) rfl) rfl, by decide +kernel, by decide +kernel, by decide +kernel, by decide +kernel⟩
abbrev b_m_depth : ByteArray := prog_3_method_21_code
def y_m_depth : MethodName := ⟨R_M, "depth", "(I)I"⟩
theorem k_m_depth : MemV y_m_depth b_m_depth 4 (some .int) 1 R_M := ⟨gT_of (List.mem_of_getElem? (i := 257) rfl) rfl, by decide +kernel, by decide +kernel, by decide +kernel, by decide +kernel⟩
theorem lk_t_28 : Cond.methodLink R_T 28 y_t_init ∈ gT := by decide +kernel
theorem lk_t_38 : Cond.methodLink R_T 38 y_t_make ∈ gT := by decide +kernel
theorem lk_t_68 : Cond.methodLink R_T 68 y_t_isPrefix ∈ gT := by decide +kernel
theorem lk_t_42 : Cond.methodLink R_T 42 y_t_mask ∈ gT := by decide +kernel
theorem lk_t_71 : Cond.methodLink R_T 71 y_t_find ∈ gT := by decide +kernel
theorem lk_t_61 : Cond.methodLink R_T 61 y_t_common ∈ gT := by decide +kernel
theorem lk_t_46 : Cond.methodLink R_T 46 y_x_min ∈ gT := by decide +kernel
theorem lk_t_52 : Cond.methodLink R_T 52 y_i_nlz ∈ gT := by decide +kernel
theorem lk_t_65 : Cond.methodLink R_T 65 y_t_child ∈ gT := by decide +kernel
theorem lk_t_57 : Cond.methodLink R_T 57 y_t_bit ∈ gT := by decide +kernel
theorem lk_t_74 : Cond.methodLink R_T 74 y_t_enter ∈ gT := by decide +kernel
theorem lk_t_81 : Cond.methodLink R_T 81 y_t_hang ∈ gT := by decide +kernel
theorem lk_t_78 : Cond.methodLink R_T 78 y_t_tell ∈ gT := by decide +kernel
theorem lk_t_84 : Cond.methodLink R_T 84 y_t_settle ∈ gT := by decide +kernel
theorem lk_t_88 : Cond.methodLink R_T 88 y_t_drop ∈ gT := by decide +kernel
theorem lk_t_91 : Cond.methodLink R_T 91 y_t_match ∈ gT := by decide +kernel
theorem lk_m_37 : Cond.methodLink R_M 37 y_m_isPrefix ∈ gT := by decide +kernel
theorem lk_m_32 : Cond.methodLink R_M 32 y_m_mask ∈ gT := by decide +kernel
theorem lk_m_41 : Cond.methodLink R_M 41 y_m_find ∈ gT := by decide +kernel
theorem lk_m_45 : Cond.methodLink R_M 45 y_m_isBefore ∈ gT := by decide +kernel
theorem lk_m_52 : Cond.methodLink R_M 52 y_m_longest ∈ gT := by decide +kernel
theorem lk_m_49 : Cond.methodLink R_M 49 y_m_begins ∈ gT := by decide +kernel
theorem lk_m_62 : Cond.methodLink R_M 62 y_m_findNodes ∈ gT := by decide +kernel
theorem lk_m_58 : Cond.methodLink R_M 58 y_m_add ∈ gT := by decide +kernel
theorem lk_law_13 : Cond.methodLink R_law 13 y_t_init ∈ gT := by decide +kernel
theorem lk_law_17 : Cond.methodLink R_law 17 y_t_insert ∈ gT := by decide +kernel
theorem lk_law_22 : Cond.methodLink R_law 22 y_t_remove ∈ gT := by decide +kernel
theorem lk_law_27 : Cond.methodLink R_law 27 y_t_lookup ∈ gT := by decide +kernel
theorem lk_law_32 : Cond.methodLink R_law 32 y_t_lookupLen ∈ gT := by decide +kernel
theorem lk_law_36 : Cond.methodLink R_law 36 y_t_exact ∈ gT := by decide +kernel
theorem lk_law_41 : Cond.methodLink R_law 41 y_t_under ∈ gT := by decide +kernel
theorem lk_law_45 : Cond.methodLink R_law 45 y_t_route ∈ gT := by decide +kernel
theorem lk_law_49 : Cond.methodLink R_law 49 y_t_count ∈ gT := by decide +kernel
theorem lk_law_54 : Cond.methodLink R_law 54 y_t_nodes ∈ gT := by decide +kernel
theorem lk_law_58 : Cond.methodLink R_law 58 y_t_depth ∈ gT := by decide +kernel
theorem lk_law_16 : Cond.methodLink R_law 16 y_m_init ∈ gT := by decide +kernel
theorem lk_law_21 : Cond.methodLink R_law 21 y_m_insert ∈ gT := by decide +kernel
theorem lk_law_26 : Cond.methodLink R_law 26 y_m_remove ∈ gT := by decide +kernel
theorem lk_law_31 : Cond.methodLink R_law 31 y_m_lookup ∈ gT := by decide +kernel
theorem lk_law_35 : Cond.methodLink R_law 35 y_m_lookupLen ∈ gT := by decide +kernel
theorem lk_law_40 : Cond.methodLink R_law 40 y_m_exact ∈ gT := by decide +kernel
theorem lk_law_44 : Cond.methodLink R_law 44 y_m_under ∈ gT := by decide +kernel
theorem lk_law_48 : Cond.methodLink R_law 48 y_m_route ∈ gT := by decide +kernel
theorem lk_law_53 : Cond.methodLink R_law 53 y_m_count ∈ gT := by decide +kernel
theorem lk_law_57 : Cond.methodLink R_law 57 y_m_nodes ∈ gT := by decide +kernel
theorem lk_law_61 : Cond.methodLink R_law 61 y_m_depth ∈ gT := by decide +kernel
end
section
theorem xmin_eq (x y : Int32) : j_x_min x y = some (if y < x then y else x) := by
  unfold j_x_min
  split <;> rfl
theorem lk_t_min : Cond.methodLink R_T 46 Lib.Math.min.name ∈ gT := by decide +kernel
theorem xmin_stat : Cond.static Lib.Math.min.name ∈ gT := by decide +kernel
theorem xmin_ini : Cond.initialized "java/lang/Math" ∈ gT := by decide +kernel
theorem xmin_code : Cond.code Lib.Math.min.name Lib.Math.min.code 2 (some .int) ∈ gT := gT_of (List.mem_of_getElem? (i := 81) rfl) rfl
theorem d_t_mask_0 : decode b_t_mask 0 = .ok (.iload_n 0, 1) := by decide +kernel
theorem d_t_mask_1 : decode b_t_mask 1 = .ok (.ifCond .ne 7, 3) := by decide +kernel
theorem d_t_mask_4 : decode b_t_mask 4 = .ok (.iconst 0, 1) := by decide +kernel
theorem d_t_mask_5 : decode b_t_mask 5 = .ok (.goto 9, 3) := by decide +kernel
theorem d_t_mask_8 : decode b_t_mask 8 = .ok (.iconst (-1), 1) := by decide +kernel
theorem d_t_mask_9 : decode b_t_mask 9 = .ok (.bipush 32, 2) := by decide +kernel
theorem d_t_mask_11 : decode b_t_mask 11 = .ok (.iload_n 0, 1) := by decide +kernel
theorem d_t_mask_12 : decode b_t_mask 12 = .ok (.isub, 1) := by decide +kernel
theorem d_t_mask_13 : decode b_t_mask 13 = .ok (.ishl, 1) := by decide +kernel
theorem d_t_mask_14 : decode b_t_mask 14 = .ok (.ireturn, 1) := by decide +kernel
set_option maxHeartbeats 4000000 in
set_option maxRecDepth 100000 in
theorem c_t_mask (l : Launch) (x0 : Int32) (r : Int32) (h : j_t_mask x0 = some r) : Met l y_t_mask (Cond.code y_t_mask b_t_mask 1 (some .int) :: gT) (rmL 0) (fun v _ => v = ([.int x0] : List Value).toArray) (QcRead r) 0 0 (fun _ => False) := by
  refine S_met (by decide) (Nat.le_of_ble_eq_true rfl) ?_
  intro p e s m below meth c ls E hr hlocks hl
  have E : CallFix p m c b_t_mask 1 s _ gT R_T := E
  have hx := E.1
  have hb := E.2.1
  have hl : lv_has ls 1 [(0, .int x0)] := hl
  unfold j_t_mask at h
  refine lv_iload_n hx hb d_t_mask_0 rfl (lv_at hl 0 rfl) ?_
  refine lv_if_ne (tgt := 8) hx hb d_t_mask_1 (by decide) (fun c1 => ?_) (fun c1 => ?_)
  · rw [if_neg c1] at h
    refine lv_iconst (v := (-1)) hx hb d_t_mask_8 (by decide) ?_
    refine lv_bipush (v := 32) hx hb d_t_mask_9 (by decide) ?_
    refine lv_iload_n hx hb d_t_mask_11 rfl (lv_at hl 0 rfl) ?_
    refine lv_isub hx hb d_t_mask_12 ?_
    refine lv_ishl hx hb d_t_mask_13 ?_
    cases h
    exact W.iret (v := _) hx hb hr (fun t ht hW => ⟨rfl, ht⟩) (fun q hq => by cases hq) d_t_mask_14
  · rw [if_pos c1] at h
    refine lv_iconst (v := 0) hx hb d_t_mask_4 (by decide) ?_
    refine lv_goto (tgt := 14) hx hb d_t_mask_5 (by decide) ?_
    cases h
    exact W.iret (v := _) hx hb hr (fun t ht hW => ⟨rfl, ht⟩) (fun q hq => by cases hq) d_t_mask_14
theorem d_t_isPrefix_0 : decode b_t_isPrefix 0 = .ok (.iload_n 1, 1) := by decide +kernel
theorem d_t_isPrefix_1 : decode b_t_isPrefix 1 = .ok (.ifCond .lt 24, 3) := by decide +kernel
theorem d_t_isPrefix_4 : decode b_t_isPrefix 4 = .ok (.iload_n 1, 1) := by decide +kernel
theorem d_t_isPrefix_5 : decode b_t_isPrefix 5 = .ok (.bipush 32, 2) := by decide +kernel
theorem d_t_isPrefix_7 : decode b_t_isPrefix 7 = .ok (.if_icmp .gt 18, 3) := by decide +kernel
theorem d_t_isPrefix_10 : decode b_t_isPrefix 10 = .ok (.iload_n 0, 1) := by decide +kernel
theorem d_t_isPrefix_11 : decode b_t_isPrefix 11 = .ok (.iload_n 1, 1) := by decide +kernel
theorem d_t_isPrefix_12 : decode b_t_isPrefix 12 = .ok (.invokestatic 42, 3) := by decide +kernel
theorem d_t_isPrefix_15 : decode b_t_isPrefix 15 = .ok (.iconst (-1), 1) := by decide +kernel
theorem d_t_isPrefix_16 : decode b_t_isPrefix 16 = .ok (.ixor, 1) := by decide +kernel
theorem d_t_isPrefix_17 : decode b_t_isPrefix 17 = .ok (.iand, 1) := by decide +kernel
theorem d_t_isPrefix_18 : decode b_t_isPrefix 18 = .ok (.ifCond .ne 7, 3) := by decide +kernel
theorem d_t_isPrefix_21 : decode b_t_isPrefix 21 = .ok (.iconst 1, 1) := by decide +kernel
theorem d_t_isPrefix_22 : decode b_t_isPrefix 22 = .ok (.goto 4, 3) := by decide +kernel
theorem d_t_isPrefix_25 : decode b_t_isPrefix 25 = .ok (.iconst 0, 1) := by decide +kernel
theorem d_t_isPrefix_26 : decode b_t_isPrefix 26 = .ok (.ireturn, 1) := by decide +kernel
set_option maxHeartbeats 4000000 in
set_option maxRecDepth 100000 in
theorem c_t_isPrefix (l : Launch) (x0 x1 : Int32) (r : Int32) (h : j_t_isPrefix x0 x1 = some r) : Met l y_t_isPrefix (Cond.code y_t_isPrefix b_t_isPrefix 2 (some .boolean) :: gT) (rmL 1) (fun v _ => v = ([.int x0, .int x1] : List Value).toArray) (QcRead r) 0 0 (fun _ => False) := by
  refine S_met (by decide) (Nat.le_of_ble_eq_true rfl) ?_
  intro p e s m below meth c ls E hr hlocks hl
  have E : CallFix p m c b_t_isPrefix 2 s _ gT R_T := E
  have hx := E.1
  have hb := E.2.1
  have hl : lv_has ls 2 [(0, .int x0), (1, .int x1)] := hl
  unfold j_t_isPrefix at h
  refine lv_iload_n hx hb d_t_isPrefix_0 rfl (lv_at hl 1 rfl) ?_
  refine lv_if_lt (tgt := 25) hx hb d_t_isPrefix_1 (by decide) (fun c1 => ?_) (fun c1 => ?_)
  · rw [if_pos c1] at h
    refine lv_iconst (v := 0) hx hb d_t_isPrefix_25 (by decide) ?_
    cases h
    exact W.zret (v := _) (ty := .boolean) hx hb hr rfl (fun t ht hW => ⟨rfl, ht⟩) (fun q hq => by cases hq) d_t_isPrefix_26
  · rw [if_neg c1] at h
    refine lv_iload_n hx hb d_t_isPrefix_4 rfl (lv_at hl 1 rfl) ?_
    refine lv_bipush (v := 32) hx hb d_t_isPrefix_5 (by decide) ?_
    refine lv_icmp_gt (tgt := 25) hx hb d_t_isPrefix_7 (by decide) (fun c2 => ?_) (fun c2 => ?_)
    · rw [if_pos c2] at h
      refine lv_iconst (v := 0) hx hb d_t_isPrefix_25 (by decide) ?_
      cases h
      exact W.zret (v := _) (ty := .boolean) hx hb hr rfl (fun t ht hW => ⟨rfl, ht⟩) (fun q hq => by cases hq) d_t_isPrefix_26
    · rw [if_neg c2] at h
      refine lv_iload_n hx hb d_t_isPrefix_10 rfl (lv_at hl 0 rfl) ?_
      refine lv_iload_n hx hb d_t_isPrefix_11 rfl (lv_at hl 1 rfl) ?_
      obtain ⟨v4, e3, h⟩ := Option.bind_eq_some_iff.mp h
      refine S_call (As := [.int x1]) (rest := [.int x0]) (r := v4) E (c_t_mask l x1 v4 e3) k_t_mask lk_t_42 ⟨Nat.le_of_ble_eq_true rfl, Nat.le_of_ble_eq_true rfl⟩ rfl hl.1 rfl (Nat.le_of_ble_eq_true rfl) d_t_isPrefix_12 ⟨Nat.le_of_ble_eq_true rfl, Nat.le_of_ble_eq_true rfl⟩ ?_
      refine lv_iconst (v := (-1)) hx hb d_t_isPrefix_15 (by decide) ?_
      refine lv_ixor hx hb d_t_isPrefix_16 ?_
      refine lv_iand hx hb d_t_isPrefix_17 ?_
      refine lv_if_ne (tgt := 25) hx hb d_t_isPrefix_18 (by decide) (fun c5 => ?_) (fun c5 => ?_)
      · rw [if_neg c5] at h
        refine lv_iconst (v := 0) hx hb d_t_isPrefix_25 (by decide) ?_
        cases h
        exact W.zret (v := _) (ty := .boolean) hx hb hr rfl (fun t ht hW => ⟨rfl, ht⟩) (fun q hq => by cases hq) d_t_isPrefix_26
      · rw [if_pos c5] at h
        refine lv_iconst (v := 1) hx hb d_t_isPrefix_21 (by decide) ?_
        refine lv_goto (tgt := 26) hx hb d_t_isPrefix_22 (by decide) ?_
        cases h
        exact W.zret (v := _) (ty := .boolean) hx hb hr rfl (fun t ht hW => ⟨rfl, ht⟩) (fun q hq => by cases hq) d_t_isPrefix_26
theorem d_i_nlz_0 : decode b_i_nlz 0 = .ok (.iload_n 0, 1) := by decide +kernel
theorem d_i_nlz_1 : decode b_i_nlz 1 = .ok (.ifCond .gt 14, 3) := by decide +kernel
theorem d_i_nlz_4 : decode b_i_nlz 4 = .ok (.iload_n 0, 1) := by decide +kernel
theorem d_i_nlz_5 : decode b_i_nlz 5 = .ok (.ifCond .ne 8, 3) := by decide +kernel
theorem d_i_nlz_8 : decode b_i_nlz 8 = .ok (.bipush 32, 2) := by decide +kernel
theorem d_i_nlz_10 : decode b_i_nlz 10 = .ok (.goto 4, 3) := by decide +kernel
theorem d_i_nlz_13 : decode b_i_nlz 13 = .ok (.iconst 0, 1) := by decide +kernel
theorem d_i_nlz_14 : decode b_i_nlz 14 = .ok (.ireturn, 1) := by decide +kernel
theorem d_i_nlz_15 : decode b_i_nlz 15 = .ok (.bipush 31, 2) := by decide +kernel
theorem d_i_nlz_17 : decode b_i_nlz 17 = .ok (.istore_n 1, 1) := by decide +kernel
theorem d_i_nlz_18 : decode b_i_nlz 18 = .ok (.iload_n 0, 1) := by decide +kernel
theorem d_i_nlz_19 : decode b_i_nlz 19 = .ok (.ldc_w 264, 3) := by decide +kernel
theorem d_i_nlz_22 : decode b_i_nlz 22 = .ok (.if_icmp .lt 11, 3) := by decide +kernel
theorem d_i_nlz_25 : decode b_i_nlz 25 = .ok (.iinc 1 (-16), 3) := by decide +kernel
theorem d_i_nlz_28 : decode b_i_nlz 28 = .ok (.iload_n 0, 1) := by decide +kernel
theorem d_i_nlz_29 : decode b_i_nlz 29 = .ok (.bipush 16, 2) := by decide +kernel
theorem d_i_nlz_31 : decode b_i_nlz 31 = .ok (.iushr, 1) := by decide +kernel
theorem d_i_nlz_32 : decode b_i_nlz 32 = .ok (.istore_n 0, 1) := by decide +kernel
theorem d_i_nlz_33 : decode b_i_nlz 33 = .ok (.iload_n 0, 1) := by decide +kernel
theorem d_i_nlz_34 : decode b_i_nlz 34 = .ok (.sipush 256, 3) := by decide +kernel
theorem d_i_nlz_37 : decode b_i_nlz 37 = .ok (.if_icmp .lt 11, 3) := by decide +kernel
theorem d_i_nlz_40 : decode b_i_nlz 40 = .ok (.iinc 1 (-8), 3) := by decide +kernel
theorem d_i_nlz_43 : decode b_i_nlz 43 = .ok (.iload_n 0, 1) := by decide +kernel
theorem d_i_nlz_44 : decode b_i_nlz 44 = .ok (.bipush 8, 2) := by decide +kernel
theorem d_i_nlz_46 : decode b_i_nlz 46 = .ok (.iushr, 1) := by decide +kernel
theorem d_i_nlz_47 : decode b_i_nlz 47 = .ok (.istore_n 0, 1) := by decide +kernel
theorem d_i_nlz_48 : decode b_i_nlz 48 = .ok (.iload_n 0, 1) := by decide +kernel
theorem d_i_nlz_49 : decode b_i_nlz 49 = .ok (.bipush 16, 2) := by decide +kernel
theorem d_i_nlz_51 : decode b_i_nlz 51 = .ok (.if_icmp .lt 10, 3) := by decide +kernel
theorem d_i_nlz_54 : decode b_i_nlz 54 = .ok (.iinc 1 (-4), 3) := by decide +kernel
theorem d_i_nlz_57 : decode b_i_nlz 57 = .ok (.iload_n 0, 1) := by decide +kernel
theorem d_i_nlz_58 : decode b_i_nlz 58 = .ok (.iconst 4, 1) := by decide +kernel
theorem d_i_nlz_59 : decode b_i_nlz 59 = .ok (.iushr, 1) := by decide +kernel
theorem d_i_nlz_60 : decode b_i_nlz 60 = .ok (.istore_n 0, 1) := by decide +kernel
theorem d_i_nlz_61 : decode b_i_nlz 61 = .ok (.iload_n 0, 1) := by decide +kernel
theorem d_i_nlz_62 : decode b_i_nlz 62 = .ok (.iconst 4, 1) := by decide +kernel
theorem d_i_nlz_63 : decode b_i_nlz 63 = .ok (.if_icmp .lt 10, 3) := by decide +kernel
theorem d_i_nlz_66 : decode b_i_nlz 66 = .ok (.iinc 1 (-2), 3) := by decide +kernel
theorem d_i_nlz_69 : decode b_i_nlz 69 = .ok (.iload_n 0, 1) := by decide +kernel
theorem d_i_nlz_70 : decode b_i_nlz 70 = .ok (.iconst 2, 1) := by decide +kernel
theorem d_i_nlz_71 : decode b_i_nlz 71 = .ok (.iushr, 1) := by decide +kernel
theorem d_i_nlz_72 : decode b_i_nlz 72 = .ok (.istore_n 0, 1) := by decide +kernel
theorem d_i_nlz_73 : decode b_i_nlz 73 = .ok (.iload_n 1, 1) := by decide +kernel
theorem d_i_nlz_74 : decode b_i_nlz 74 = .ok (.iload_n 0, 1) := by decide +kernel
theorem d_i_nlz_75 : decode b_i_nlz 75 = .ok (.iconst 1, 1) := by decide +kernel
theorem d_i_nlz_76 : decode b_i_nlz 76 = .ok (.iushr, 1) := by decide +kernel
theorem d_i_nlz_77 : decode b_i_nlz 77 = .ok (.isub, 1) := by decide +kernel
theorem d_i_nlz_78 : decode b_i_nlz 78 = .ok (.ireturn, 1) := by decide +kernel
set_option maxHeartbeats 4000000 in
set_option maxRecDepth 100000 in
theorem c_i_nlz (l : Launch) (x0 : Int32) (r : Int32) (h : j_i_nlz x0 = some r) : Met l y_i_nlz (Cond.code y_i_nlz b_i_nlz 2 (some .int) :: gT) (rmL 0) (fun v _ => v = ([.int x0] : List Value).toArray) (QcRead r) 0 0 (fun _ => False) := by
  refine S_met (by decide) (Nat.le_of_ble_eq_true rfl) ?_
  intro p e s m below meth c ls E hr hlocks hl
  have E : CallFix p m c b_i_nlz 2 s _ gT "java/lang/Integer" := E
  have hx := E.1
  have hb := E.2.1
  have hl : lv_has ls 2 [(0, .int x0)] := hl
  unfold j_i_nlz at h
  refine lv_iload_n hx hb d_i_nlz_0 rfl (lv_at hl 0 rfl) ?_
  refine lv_if_gt (tgt := 15) hx hb d_i_nlz_1 (by decide) (fun c1 => ?_) (fun c1 => ?_)
  · rw [if_pos c1] at h
    refine lv_bipush (v := 31) hx hb d_i_nlz_15 (by decide) ?_
    refine lv_istore_n (lv' := [(1, .int 31), (0, .int x0)]) hx hb d_i_nlz_17 rfl hl (by decide) rfl (fun ls hl => ?_)
    refine lv_iload_n hx hb d_i_nlz_18 rfl (lv_at hl 1 rfl) ?_
    refine lv_ldcw hx hb E.2.2.2.1 (E.2.2.2.2 (.constant "java/lang/Integer" 264 65536) (by decide +kernel)) d_i_nlz_19 ?_
    refine lv_icmp_lt (tgt := 33) hx hb d_i_nlz_22 (by decide) (fun c2 => ?_) (fun c2 => ?_)
    · rw [if_pos c2] at h
      refine lv_iload_n hx hb d_i_nlz_33 rfl (lv_at hl 1 rfl) ?_
      refine lv_sipush (v := 256) hx hb d_i_nlz_34 (by decide) ?_
      refine lv_icmp_lt (tgt := 48) hx hb d_i_nlz_37 (by decide) (fun c3 => ?_) (fun c3 => ?_)
      · rw [if_pos c3] at h
        refine lv_iload_n hx hb d_i_nlz_48 rfl (lv_at hl 1 rfl) ?_
        refine lv_bipush (v := 16) hx hb d_i_nlz_49 (by decide) ?_
        refine lv_icmp_lt (tgt := 61) hx hb d_i_nlz_51 (by decide) (fun c4 => ?_) (fun c4 => ?_)
        · rw [if_pos c4] at h
          refine lv_iload_n hx hb d_i_nlz_61 rfl (lv_at hl 1 rfl) ?_
          refine lv_iconst (v := 4) hx hb d_i_nlz_62 (by decide) ?_
          refine lv_icmp_lt (tgt := 73) hx hb d_i_nlz_63 (by decide) (fun c5 => ?_) (fun c5 => ?_)
          · rw [if_pos c5] at h
            refine lv_iload_n hx hb d_i_nlz_73 rfl (lv_at hl 0 rfl) ?_
            refine lv_iload_n hx hb d_i_nlz_74 rfl (lv_at hl 1 rfl) ?_
            refine lv_iconst (v := 1) hx hb d_i_nlz_75 (by decide) ?_
            refine lv_iushr hx hb d_i_nlz_76 rfl ?_
            refine lv_isub hx hb d_i_nlz_77 ?_
            cases h
            exact W.iret (v := _) hx hb hr (fun t ht hW => ⟨rfl, ht⟩) (fun q hq => by cases hq) d_i_nlz_78
          · rw [if_neg c5] at h
            refine lv_iinc (v := 31 + (-2)) (lv' := [(1, .int (31 + (-2))), (0, .int x0)]) hx hb d_i_nlz_66 hl (k := 0) rfl rfl (by decide) rfl (fun ls hl => ?_)
            refine lv_iload_n hx hb d_i_nlz_69 rfl (lv_at hl 1 rfl) ?_
            refine lv_iconst (v := 2) hx hb d_i_nlz_70 (by decide) ?_
            refine lv_iushr hx hb d_i_nlz_71 rfl ?_
            refine lv_istore_n (lv' := [(0, .int ((Int32.toUInt32 x0 >>> (Int32.toUInt32 2 &&& Int32.toUInt32 31)).toInt32)), (1, .int (31 + (-2)))]) hx hb d_i_nlz_72 rfl hl (by decide) rfl (fun ls hl => ?_)
            refine lv_iload_n hx hb d_i_nlz_73 rfl (lv_at hl 1 rfl) ?_
            refine lv_iload_n hx hb d_i_nlz_74 rfl (lv_at hl 0 rfl) ?_
            refine lv_iconst (v := 1) hx hb d_i_nlz_75 (by decide) ?_
            refine lv_iushr hx hb d_i_nlz_76 rfl ?_
            refine lv_isub hx hb d_i_nlz_77 ?_
            cases h
            exact W.iret (v := _) hx hb hr (fun t ht hW => ⟨rfl, ht⟩) (fun q hq => by cases hq) d_i_nlz_78
        · rw [if_neg c4] at h
          refine lv_iinc (v := 31 + (-4)) (lv' := [(1, .int (31 + (-4))), (0, .int x0)]) hx hb d_i_nlz_54 hl (k := 0) rfl rfl (by decide) rfl (fun ls hl => ?_)
          refine lv_iload_n hx hb d_i_nlz_57 rfl (lv_at hl 1 rfl) ?_
          refine lv_iconst (v := 4) hx hb d_i_nlz_58 (by decide) ?_
          refine lv_iushr hx hb d_i_nlz_59 rfl ?_
          refine lv_istore_n (lv' := [(0, .int ((Int32.toUInt32 x0 >>> (Int32.toUInt32 4 &&& Int32.toUInt32 31)).toInt32)), (1, .int (31 + (-4)))]) hx hb d_i_nlz_60 rfl hl (by decide) rfl (fun ls hl => ?_)
          refine lv_iload_n hx hb d_i_nlz_61 rfl (lv_at hl 0 rfl) ?_
          refine lv_iconst (v := 4) hx hb d_i_nlz_62 (by decide) ?_
          refine lv_icmp_lt (tgt := 73) hx hb d_i_nlz_63 (by decide) (fun c6 => ?_) (fun c6 => ?_)
          · rw [if_pos c6] at h
            refine lv_iload_n hx hb d_i_nlz_73 rfl (lv_at hl 1 rfl) ?_
            refine lv_iload_n hx hb d_i_nlz_74 rfl (lv_at hl 0 rfl) ?_
            refine lv_iconst (v := 1) hx hb d_i_nlz_75 (by decide) ?_
            refine lv_iushr hx hb d_i_nlz_76 rfl ?_
            refine lv_isub hx hb d_i_nlz_77 ?_
            cases h
            exact W.iret (v := _) hx hb hr (fun t ht hW => ⟨rfl, ht⟩) (fun q hq => by cases hq) d_i_nlz_78
          · rw [if_neg c6] at h
            refine lv_iinc (v := (31 + (-4)) + (-2)) (lv' := [(1, .int ((31 + (-4)) + (-2))), (0, .int ((Int32.toUInt32 x0 >>> (Int32.toUInt32 4 &&& Int32.toUInt32 31)).toInt32))]) hx hb d_i_nlz_66 hl (k := 1) rfl rfl (by decide) rfl (fun ls hl => ?_)
            refine lv_iload_n hx hb d_i_nlz_69 rfl (lv_at hl 1 rfl) ?_
            refine lv_iconst (v := 2) hx hb d_i_nlz_70 (by decide) ?_
            refine lv_iushr hx hb d_i_nlz_71 rfl ?_
            refine lv_istore_n (lv' := [(0, .int ((Int32.toUInt32 ((Int32.toUInt32 x0 >>> (Int32.toUInt32 4 &&& Int32.toUInt32 31)).toInt32) >>> (Int32.toUInt32 2 &&& Int32.toUInt32 31)).toInt32)), (1, .int ((31 + (-4)) + (-2)))]) hx hb d_i_nlz_72 rfl hl (by decide) rfl (fun ls hl => ?_)
            refine lv_iload_n hx hb d_i_nlz_73 rfl (lv_at hl 1 rfl) ?_
            refine lv_iload_n hx hb d_i_nlz_74 rfl (lv_at hl 0 rfl) ?_
            refine lv_iconst (v := 1) hx hb d_i_nlz_75 (by decide) ?_
            refine lv_iushr hx hb d_i_nlz_76 rfl ?_
            refine lv_isub hx hb d_i_nlz_77 ?_
            cases h
            exact W.iret (v := _) hx hb hr (fun t ht hW => ⟨rfl, ht⟩) (fun q hq => by cases hq) d_i_nlz_78
      · rw [if_neg c3] at h
        refine lv_iinc (v := 31 + (-8)) (lv' := [(1, .int (31 + (-8))), (0, .int x0)]) hx hb d_i_nlz_40 hl (k := 0) rfl rfl (by decide) rfl (fun ls hl => ?_)
        refine lv_iload_n hx hb d_i_nlz_43 rfl (lv_at hl 1 rfl) ?_
        refine lv_bipush (v := 8) hx hb d_i_nlz_44 (by decide) ?_
        refine lv_iushr hx hb d_i_nlz_46 rfl ?_
        refine lv_istore_n (lv' := [(0, .int ((Int32.toUInt32 x0 >>> (Int32.toUInt32 8 &&& Int32.toUInt32 31)).toInt32)), (1, .int (31 + (-8)))]) hx hb d_i_nlz_47 rfl hl (by decide) rfl (fun ls hl => ?_)
        refine lv_iload_n hx hb d_i_nlz_48 rfl (lv_at hl 0 rfl) ?_
        refine lv_bipush (v := 16) hx hb d_i_nlz_49 (by decide) ?_
        refine lv_icmp_lt (tgt := 61) hx hb d_i_nlz_51 (by decide) (fun c7 => ?_) (fun c7 => ?_)
        · rw [if_pos c7] at h
          refine lv_iload_n hx hb d_i_nlz_61 rfl (lv_at hl 0 rfl) ?_
          refine lv_iconst (v := 4) hx hb d_i_nlz_62 (by decide) ?_
          refine lv_icmp_lt (tgt := 73) hx hb d_i_nlz_63 (by decide) (fun c8 => ?_) (fun c8 => ?_)
          · rw [if_pos c8] at h
            refine lv_iload_n hx hb d_i_nlz_73 rfl (lv_at hl 1 rfl) ?_
            refine lv_iload_n hx hb d_i_nlz_74 rfl (lv_at hl 0 rfl) ?_
            refine lv_iconst (v := 1) hx hb d_i_nlz_75 (by decide) ?_
            refine lv_iushr hx hb d_i_nlz_76 rfl ?_
            refine lv_isub hx hb d_i_nlz_77 ?_
            cases h
            exact W.iret (v := _) hx hb hr (fun t ht hW => ⟨rfl, ht⟩) (fun q hq => by cases hq) d_i_nlz_78
          · rw [if_neg c8] at h
            refine lv_iinc (v := (31 + (-8)) + (-2)) (lv' := [(1, .int ((31 + (-8)) + (-2))), (0, .int ((Int32.toUInt32 x0 >>> (Int32.toUInt32 8 &&& Int32.toUInt32 31)).toInt32))]) hx hb d_i_nlz_66 hl (k := 1) rfl rfl (by decide) rfl (fun ls hl => ?_)
            refine lv_iload_n hx hb d_i_nlz_69 rfl (lv_at hl 1 rfl) ?_
            refine lv_iconst (v := 2) hx hb d_i_nlz_70 (by decide) ?_
            refine lv_iushr hx hb d_i_nlz_71 rfl ?_
            refine lv_istore_n (lv' := [(0, .int ((Int32.toUInt32 ((Int32.toUInt32 x0 >>> (Int32.toUInt32 8 &&& Int32.toUInt32 31)).toInt32) >>> (Int32.toUInt32 2 &&& Int32.toUInt32 31)).toInt32)), (1, .int ((31 + (-8)) + (-2)))]) hx hb d_i_nlz_72 rfl hl (by decide) rfl (fun ls hl => ?_)
            refine lv_iload_n hx hb d_i_nlz_73 rfl (lv_at hl 1 rfl) ?_
            refine lv_iload_n hx hb d_i_nlz_74 rfl (lv_at hl 0 rfl) ?_
            refine lv_iconst (v := 1) hx hb d_i_nlz_75 (by decide) ?_
            refine lv_iushr hx hb d_i_nlz_76 rfl ?_
            refine lv_isub hx hb d_i_nlz_77 ?_
            cases h
            exact W.iret (v := _) hx hb hr (fun t ht hW => ⟨rfl, ht⟩) (fun q hq => by cases hq) d_i_nlz_78
        · rw [if_neg c7] at h
          refine lv_iinc (v := (31 + (-8)) + (-4)) (lv' := [(1, .int ((31 + (-8)) + (-4))), (0, .int ((Int32.toUInt32 x0 >>> (Int32.toUInt32 8 &&& Int32.toUInt32 31)).toInt32))]) hx hb d_i_nlz_54 hl (k := 1) rfl rfl (by decide) rfl (fun ls hl => ?_)
          refine lv_iload_n hx hb d_i_nlz_57 rfl (lv_at hl 1 rfl) ?_
          refine lv_iconst (v := 4) hx hb d_i_nlz_58 (by decide) ?_
          refine lv_iushr hx hb d_i_nlz_59 rfl ?_
          refine lv_istore_n (lv' := [(0, .int ((Int32.toUInt32 ((Int32.toUInt32 x0 >>> (Int32.toUInt32 8 &&& Int32.toUInt32 31)).toInt32) >>> (Int32.toUInt32 4 &&& Int32.toUInt32 31)).toInt32)), (1, .int ((31 + (-8)) + (-4)))]) hx hb d_i_nlz_60 rfl hl (by decide) rfl (fun ls hl => ?_)
          refine lv_iload_n hx hb d_i_nlz_61 rfl (lv_at hl 0 rfl) ?_
          refine lv_iconst (v := 4) hx hb d_i_nlz_62 (by decide) ?_
          refine lv_icmp_lt (tgt := 73) hx hb d_i_nlz_63 (by decide) (fun c9 => ?_) (fun c9 => ?_)
          · rw [if_pos c9] at h
            refine lv_iload_n hx hb d_i_nlz_73 rfl (lv_at hl 1 rfl) ?_
            refine lv_iload_n hx hb d_i_nlz_74 rfl (lv_at hl 0 rfl) ?_
            refine lv_iconst (v := 1) hx hb d_i_nlz_75 (by decide) ?_
            refine lv_iushr hx hb d_i_nlz_76 rfl ?_
            refine lv_isub hx hb d_i_nlz_77 ?_
            cases h
            exact W.iret (v := _) hx hb hr (fun t ht hW => ⟨rfl, ht⟩) (fun q hq => by cases hq) d_i_nlz_78
          · rw [if_neg c9] at h
            refine lv_iinc (v := ((31 + (-8)) + (-4)) + (-2)) (lv' := [(1, .int (((31 + (-8)) + (-4)) + (-2))), (0, .int ((Int32.toUInt32 ((Int32.toUInt32 x0 >>> (Int32.toUInt32 8 &&& Int32.toUInt32 31)).toInt32) >>> (Int32.toUInt32 4 &&& Int32.toUInt32 31)).toInt32))]) hx hb d_i_nlz_66 hl (k := 1) rfl rfl (by decide) rfl (fun ls hl => ?_)
            refine lv_iload_n hx hb d_i_nlz_69 rfl (lv_at hl 1 rfl) ?_
            refine lv_iconst (v := 2) hx hb d_i_nlz_70 (by decide) ?_
            refine lv_iushr hx hb d_i_nlz_71 rfl ?_
            refine lv_istore_n (lv' := [(0, .int ((Int32.toUInt32 ((Int32.toUInt32 ((Int32.toUInt32 x0 >>> (Int32.toUInt32 8 &&& Int32.toUInt32 31)).toInt32) >>> (Int32.toUInt32 4 &&& Int32.toUInt32 31)).toInt32) >>> (Int32.toUInt32 2 &&& Int32.toUInt32 31)).toInt32)), (1, .int (((31 + (-8)) + (-4)) + (-2)))]) hx hb d_i_nlz_72 rfl hl (by decide) rfl (fun ls hl => ?_)
            refine lv_iload_n hx hb d_i_nlz_73 rfl (lv_at hl 1 rfl) ?_
            refine lv_iload_n hx hb d_i_nlz_74 rfl (lv_at hl 0 rfl) ?_
            refine lv_iconst (v := 1) hx hb d_i_nlz_75 (by decide) ?_
            refine lv_iushr hx hb d_i_nlz_76 rfl ?_
            refine lv_isub hx hb d_i_nlz_77 ?_
            cases h
            exact W.iret (v := _) hx hb hr (fun t ht hW => ⟨rfl, ht⟩) (fun q hq => by cases hq) d_i_nlz_78
    · rw [if_neg c2] at h
      refine lv_iinc (v := 31 + (-16)) (lv' := [(1, .int (31 + (-16))), (0, .int x0)]) hx hb d_i_nlz_25 hl (k := 0) rfl rfl (by decide) rfl (fun ls hl => ?_)
      refine lv_iload_n hx hb d_i_nlz_28 rfl (lv_at hl 1 rfl) ?_
      refine lv_bipush (v := 16) hx hb d_i_nlz_29 (by decide) ?_
      refine lv_iushr hx hb d_i_nlz_31 rfl ?_
      refine lv_istore_n (lv' := [(0, .int ((Int32.toUInt32 x0 >>> (Int32.toUInt32 16 &&& Int32.toUInt32 31)).toInt32)), (1, .int (31 + (-16)))]) hx hb d_i_nlz_32 rfl hl (by decide) rfl (fun ls hl => ?_)
      refine lv_iload_n hx hb d_i_nlz_33 rfl (lv_at hl 0 rfl) ?_
      refine lv_sipush (v := 256) hx hb d_i_nlz_34 (by decide) ?_
      refine lv_icmp_lt (tgt := 48) hx hb d_i_nlz_37 (by decide) (fun c10 => ?_) (fun c10 => ?_)
      · rw [if_pos c10] at h
        refine lv_iload_n hx hb d_i_nlz_48 rfl (lv_at hl 0 rfl) ?_
        refine lv_bipush (v := 16) hx hb d_i_nlz_49 (by decide) ?_
        refine lv_icmp_lt (tgt := 61) hx hb d_i_nlz_51 (by decide) (fun c11 => ?_) (fun c11 => ?_)
        · rw [if_pos c11] at h
          refine lv_iload_n hx hb d_i_nlz_61 rfl (lv_at hl 0 rfl) ?_
          refine lv_iconst (v := 4) hx hb d_i_nlz_62 (by decide) ?_
          refine lv_icmp_lt (tgt := 73) hx hb d_i_nlz_63 (by decide) (fun c12 => ?_) (fun c12 => ?_)
          · rw [if_pos c12] at h
            refine lv_iload_n hx hb d_i_nlz_73 rfl (lv_at hl 1 rfl) ?_
            refine lv_iload_n hx hb d_i_nlz_74 rfl (lv_at hl 0 rfl) ?_
            refine lv_iconst (v := 1) hx hb d_i_nlz_75 (by decide) ?_
            refine lv_iushr hx hb d_i_nlz_76 rfl ?_
            refine lv_isub hx hb d_i_nlz_77 ?_
            cases h
            exact W.iret (v := _) hx hb hr (fun t ht hW => ⟨rfl, ht⟩) (fun q hq => by cases hq) d_i_nlz_78
          · rw [if_neg c12] at h
            refine lv_iinc (v := (31 + (-16)) + (-2)) (lv' := [(1, .int ((31 + (-16)) + (-2))), (0, .int ((Int32.toUInt32 x0 >>> (Int32.toUInt32 16 &&& Int32.toUInt32 31)).toInt32))]) hx hb d_i_nlz_66 hl (k := 1) rfl rfl (by decide) rfl (fun ls hl => ?_)
            refine lv_iload_n hx hb d_i_nlz_69 rfl (lv_at hl 1 rfl) ?_
            refine lv_iconst (v := 2) hx hb d_i_nlz_70 (by decide) ?_
            refine lv_iushr hx hb d_i_nlz_71 rfl ?_
            refine lv_istore_n (lv' := [(0, .int ((Int32.toUInt32 ((Int32.toUInt32 x0 >>> (Int32.toUInt32 16 &&& Int32.toUInt32 31)).toInt32) >>> (Int32.toUInt32 2 &&& Int32.toUInt32 31)).toInt32)), (1, .int ((31 + (-16)) + (-2)))]) hx hb d_i_nlz_72 rfl hl (by decide) rfl (fun ls hl => ?_)
            refine lv_iload_n hx hb d_i_nlz_73 rfl (lv_at hl 1 rfl) ?_
            refine lv_iload_n hx hb d_i_nlz_74 rfl (lv_at hl 0 rfl) ?_
            refine lv_iconst (v := 1) hx hb d_i_nlz_75 (by decide) ?_
            refine lv_iushr hx hb d_i_nlz_76 rfl ?_
            refine lv_isub hx hb d_i_nlz_77 ?_
            cases h
            exact W.iret (v := _) hx hb hr (fun t ht hW => ⟨rfl, ht⟩) (fun q hq => by cases hq) d_i_nlz_78
        · rw [if_neg c11] at h
          refine lv_iinc (v := (31 + (-16)) + (-4)) (lv' := [(1, .int ((31 + (-16)) + (-4))), (0, .int ((Int32.toUInt32 x0 >>> (Int32.toUInt32 16 &&& Int32.toUInt32 31)).toInt32))]) hx hb d_i_nlz_54 hl (k := 1) rfl rfl (by decide) rfl (fun ls hl => ?_)
          refine lv_iload_n hx hb d_i_nlz_57 rfl (lv_at hl 1 rfl) ?_
          refine lv_iconst (v := 4) hx hb d_i_nlz_58 (by decide) ?_
          refine lv_iushr hx hb d_i_nlz_59 rfl ?_
          refine lv_istore_n (lv' := [(0, .int ((Int32.toUInt32 ((Int32.toUInt32 x0 >>> (Int32.toUInt32 16 &&& Int32.toUInt32 31)).toInt32) >>> (Int32.toUInt32 4 &&& Int32.toUInt32 31)).toInt32)), (1, .int ((31 + (-16)) + (-4)))]) hx hb d_i_nlz_60 rfl hl (by decide) rfl (fun ls hl => ?_)
          refine lv_iload_n hx hb d_i_nlz_61 rfl (lv_at hl 0 rfl) ?_
          refine lv_iconst (v := 4) hx hb d_i_nlz_62 (by decide) ?_
          refine lv_icmp_lt (tgt := 73) hx hb d_i_nlz_63 (by decide) (fun c13 => ?_) (fun c13 => ?_)
          · rw [if_pos c13] at h
            refine lv_iload_n hx hb d_i_nlz_73 rfl (lv_at hl 1 rfl) ?_
            refine lv_iload_n hx hb d_i_nlz_74 rfl (lv_at hl 0 rfl) ?_
            refine lv_iconst (v := 1) hx hb d_i_nlz_75 (by decide) ?_
            refine lv_iushr hx hb d_i_nlz_76 rfl ?_
            refine lv_isub hx hb d_i_nlz_77 ?_
            cases h
            exact W.iret (v := _) hx hb hr (fun t ht hW => ⟨rfl, ht⟩) (fun q hq => by cases hq) d_i_nlz_78
          · rw [if_neg c13] at h
            refine lv_iinc (v := ((31 + (-16)) + (-4)) + (-2)) (lv' := [(1, .int (((31 + (-16)) + (-4)) + (-2))), (0, .int ((Int32.toUInt32 ((Int32.toUInt32 x0 >>> (Int32.toUInt32 16 &&& Int32.toUInt32 31)).toInt32) >>> (Int32.toUInt32 4 &&& Int32.toUInt32 31)).toInt32))]) hx hb d_i_nlz_66 hl (k := 1) rfl rfl (by decide) rfl (fun ls hl => ?_)
            refine lv_iload_n hx hb d_i_nlz_69 rfl (lv_at hl 1 rfl) ?_
            refine lv_iconst (v := 2) hx hb d_i_nlz_70 (by decide) ?_
            refine lv_iushr hx hb d_i_nlz_71 rfl ?_
            refine lv_istore_n (lv' := [(0, .int ((Int32.toUInt32 ((Int32.toUInt32 ((Int32.toUInt32 x0 >>> (Int32.toUInt32 16 &&& Int32.toUInt32 31)).toInt32) >>> (Int32.toUInt32 4 &&& Int32.toUInt32 31)).toInt32) >>> (Int32.toUInt32 2 &&& Int32.toUInt32 31)).toInt32)), (1, .int (((31 + (-16)) + (-4)) + (-2)))]) hx hb d_i_nlz_72 rfl hl (by decide) rfl (fun ls hl => ?_)
            refine lv_iload_n hx hb d_i_nlz_73 rfl (lv_at hl 1 rfl) ?_
            refine lv_iload_n hx hb d_i_nlz_74 rfl (lv_at hl 0 rfl) ?_
            refine lv_iconst (v := 1) hx hb d_i_nlz_75 (by decide) ?_
            refine lv_iushr hx hb d_i_nlz_76 rfl ?_
            refine lv_isub hx hb d_i_nlz_77 ?_
            cases h
            exact W.iret (v := _) hx hb hr (fun t ht hW => ⟨rfl, ht⟩) (fun q hq => by cases hq) d_i_nlz_78
      · rw [if_neg c10] at h
        refine lv_iinc (v := (31 + (-16)) + (-8)) (lv' := [(1, .int ((31 + (-16)) + (-8))), (0, .int ((Int32.toUInt32 x0 >>> (Int32.toUInt32 16 &&& Int32.toUInt32 31)).toInt32))]) hx hb d_i_nlz_40 hl (k := 1) rfl rfl (by decide) rfl (fun ls hl => ?_)
        refine lv_iload_n hx hb d_i_nlz_43 rfl (lv_at hl 1 rfl) ?_
        refine lv_bipush (v := 8) hx hb d_i_nlz_44 (by decide) ?_
        refine lv_iushr hx hb d_i_nlz_46 rfl ?_
        refine lv_istore_n (lv' := [(0, .int ((Int32.toUInt32 ((Int32.toUInt32 x0 >>> (Int32.toUInt32 16 &&& Int32.toUInt32 31)).toInt32) >>> (Int32.toUInt32 8 &&& Int32.toUInt32 31)).toInt32)), (1, .int ((31 + (-16)) + (-8)))]) hx hb d_i_nlz_47 rfl hl (by decide) rfl (fun ls hl => ?_)
        refine lv_iload_n hx hb d_i_nlz_48 rfl (lv_at hl 0 rfl) ?_
        refine lv_bipush (v := 16) hx hb d_i_nlz_49 (by decide) ?_
        refine lv_icmp_lt (tgt := 61) hx hb d_i_nlz_51 (by decide) (fun c14 => ?_) (fun c14 => ?_)
        · rw [if_pos c14] at h
          refine lv_iload_n hx hb d_i_nlz_61 rfl (lv_at hl 0 rfl) ?_
          refine lv_iconst (v := 4) hx hb d_i_nlz_62 (by decide) ?_
          refine lv_icmp_lt (tgt := 73) hx hb d_i_nlz_63 (by decide) (fun c15 => ?_) (fun c15 => ?_)
          · rw [if_pos c15] at h
            refine lv_iload_n hx hb d_i_nlz_73 rfl (lv_at hl 1 rfl) ?_
            refine lv_iload_n hx hb d_i_nlz_74 rfl (lv_at hl 0 rfl) ?_
            refine lv_iconst (v := 1) hx hb d_i_nlz_75 (by decide) ?_
            refine lv_iushr hx hb d_i_nlz_76 rfl ?_
            refine lv_isub hx hb d_i_nlz_77 ?_
            cases h
            exact W.iret (v := _) hx hb hr (fun t ht hW => ⟨rfl, ht⟩) (fun q hq => by cases hq) d_i_nlz_78
          · rw [if_neg c15] at h
            refine lv_iinc (v := ((31 + (-16)) + (-8)) + (-2)) (lv' := [(1, .int (((31 + (-16)) + (-8)) + (-2))), (0, .int ((Int32.toUInt32 ((Int32.toUInt32 x0 >>> (Int32.toUInt32 16 &&& Int32.toUInt32 31)).toInt32) >>> (Int32.toUInt32 8 &&& Int32.toUInt32 31)).toInt32))]) hx hb d_i_nlz_66 hl (k := 1) rfl rfl (by decide) rfl (fun ls hl => ?_)
            refine lv_iload_n hx hb d_i_nlz_69 rfl (lv_at hl 1 rfl) ?_
            refine lv_iconst (v := 2) hx hb d_i_nlz_70 (by decide) ?_
            refine lv_iushr hx hb d_i_nlz_71 rfl ?_
            refine lv_istore_n (lv' := [(0, .int ((Int32.toUInt32 ((Int32.toUInt32 ((Int32.toUInt32 x0 >>> (Int32.toUInt32 16 &&& Int32.toUInt32 31)).toInt32) >>> (Int32.toUInt32 8 &&& Int32.toUInt32 31)).toInt32) >>> (Int32.toUInt32 2 &&& Int32.toUInt32 31)).toInt32)), (1, .int (((31 + (-16)) + (-8)) + (-2)))]) hx hb d_i_nlz_72 rfl hl (by decide) rfl (fun ls hl => ?_)
            refine lv_iload_n hx hb d_i_nlz_73 rfl (lv_at hl 1 rfl) ?_
            refine lv_iload_n hx hb d_i_nlz_74 rfl (lv_at hl 0 rfl) ?_
            refine lv_iconst (v := 1) hx hb d_i_nlz_75 (by decide) ?_
            refine lv_iushr hx hb d_i_nlz_76 rfl ?_
            refine lv_isub hx hb d_i_nlz_77 ?_
            cases h
            exact W.iret (v := _) hx hb hr (fun t ht hW => ⟨rfl, ht⟩) (fun q hq => by cases hq) d_i_nlz_78
        · rw [if_neg c14] at h
          refine lv_iinc (v := ((31 + (-16)) + (-8)) + (-4)) (lv' := [(1, .int (((31 + (-16)) + (-8)) + (-4))), (0, .int ((Int32.toUInt32 ((Int32.toUInt32 x0 >>> (Int32.toUInt32 16 &&& Int32.toUInt32 31)).toInt32) >>> (Int32.toUInt32 8 &&& Int32.toUInt32 31)).toInt32))]) hx hb d_i_nlz_54 hl (k := 1) rfl rfl (by decide) rfl (fun ls hl => ?_)
          refine lv_iload_n hx hb d_i_nlz_57 rfl (lv_at hl 1 rfl) ?_
          refine lv_iconst (v := 4) hx hb d_i_nlz_58 (by decide) ?_
          refine lv_iushr hx hb d_i_nlz_59 rfl ?_
          refine lv_istore_n (lv' := [(0, .int ((Int32.toUInt32 ((Int32.toUInt32 ((Int32.toUInt32 x0 >>> (Int32.toUInt32 16 &&& Int32.toUInt32 31)).toInt32) >>> (Int32.toUInt32 8 &&& Int32.toUInt32 31)).toInt32) >>> (Int32.toUInt32 4 &&& Int32.toUInt32 31)).toInt32)), (1, .int (((31 + (-16)) + (-8)) + (-4)))]) hx hb d_i_nlz_60 rfl hl (by decide) rfl (fun ls hl => ?_)
          refine lv_iload_n hx hb d_i_nlz_61 rfl (lv_at hl 0 rfl) ?_
          refine lv_iconst (v := 4) hx hb d_i_nlz_62 (by decide) ?_
          refine lv_icmp_lt (tgt := 73) hx hb d_i_nlz_63 (by decide) (fun c16 => ?_) (fun c16 => ?_)
          · rw [if_pos c16] at h
            refine lv_iload_n hx hb d_i_nlz_73 rfl (lv_at hl 1 rfl) ?_
            refine lv_iload_n hx hb d_i_nlz_74 rfl (lv_at hl 0 rfl) ?_
            refine lv_iconst (v := 1) hx hb d_i_nlz_75 (by decide) ?_
            refine lv_iushr hx hb d_i_nlz_76 rfl ?_
            refine lv_isub hx hb d_i_nlz_77 ?_
            cases h
            exact W.iret (v := _) hx hb hr (fun t ht hW => ⟨rfl, ht⟩) (fun q hq => by cases hq) d_i_nlz_78
          · rw [if_neg c16] at h
            refine lv_iinc (v := (((31 + (-16)) + (-8)) + (-4)) + (-2)) (lv' := [(1, .int ((((31 + (-16)) + (-8)) + (-4)) + (-2))), (0, .int ((Int32.toUInt32 ((Int32.toUInt32 ((Int32.toUInt32 x0 >>> (Int32.toUInt32 16 &&& Int32.toUInt32 31)).toInt32) >>> (Int32.toUInt32 8 &&& Int32.toUInt32 31)).toInt32) >>> (Int32.toUInt32 4 &&& Int32.toUInt32 31)).toInt32))]) hx hb d_i_nlz_66 hl (k := 1) rfl rfl (by decide) rfl (fun ls hl => ?_)
            refine lv_iload_n hx hb d_i_nlz_69 rfl (lv_at hl 1 rfl) ?_
            refine lv_iconst (v := 2) hx hb d_i_nlz_70 (by decide) ?_
            refine lv_iushr hx hb d_i_nlz_71 rfl ?_
            refine lv_istore_n (lv' := [(0, .int ((Int32.toUInt32 ((Int32.toUInt32 ((Int32.toUInt32 ((Int32.toUInt32 x0 >>> (Int32.toUInt32 16 &&& Int32.toUInt32 31)).toInt32) >>> (Int32.toUInt32 8 &&& Int32.toUInt32 31)).toInt32) >>> (Int32.toUInt32 4 &&& Int32.toUInt32 31)).toInt32) >>> (Int32.toUInt32 2 &&& Int32.toUInt32 31)).toInt32)), (1, .int ((((31 + (-16)) + (-8)) + (-4)) + (-2)))]) hx hb d_i_nlz_72 rfl hl (by decide) rfl (fun ls hl => ?_)
            refine lv_iload_n hx hb d_i_nlz_73 rfl (lv_at hl 1 rfl) ?_
            refine lv_iload_n hx hb d_i_nlz_74 rfl (lv_at hl 0 rfl) ?_
            refine lv_iconst (v := 1) hx hb d_i_nlz_75 (by decide) ?_
            refine lv_iushr hx hb d_i_nlz_76 rfl ?_
            refine lv_isub hx hb d_i_nlz_77 ?_
            cases h
            exact W.iret (v := _) hx hb hr (fun t ht hW => ⟨rfl, ht⟩) (fun q hq => by cases hq) d_i_nlz_78
  · rw [if_neg c1] at h
    refine lv_iload_n hx hb d_i_nlz_4 rfl (lv_at hl 0 rfl) ?_
    refine lv_if_ne (tgt := 13) hx hb d_i_nlz_5 (by decide) (fun c17 => ?_) (fun c17 => ?_)
    · rw [if_neg c17] at h
      refine lv_iconst (v := 0) hx hb d_i_nlz_13 (by decide) ?_
      cases h
      exact W.iret (v := _) hx hb hr (fun t ht hW => ⟨rfl, ht⟩) (fun q hq => by cases hq) d_i_nlz_14
    · rw [if_pos c17] at h
      refine lv_bipush (v := 32) hx hb d_i_nlz_8 (by decide) ?_
      refine lv_goto (tgt := 14) hx hb d_i_nlz_10 (by decide) ?_
      cases h
      exact W.iret (v := _) hx hb hr (fun t ht hW => ⟨rfl, ht⟩) (fun q hq => by cases hq) d_i_nlz_14
theorem d_t_common_0 : decode b_t_common 0 = .ok (.iload_n 1, 1) := by decide +kernel
theorem d_t_common_1 : decode b_t_common 1 = .ok (.iload_n 3, 1) := by decide +kernel
theorem d_t_common_2 : decode b_t_common 2 = .ok (.invokestatic 46, 3) := by decide +kernel
theorem d_t_common_5 : decode b_t_common 5 = .ok (.iload_n 0, 1) := by decide +kernel
theorem d_t_common_6 : decode b_t_common 6 = .ok (.iload_n 2, 1) := by decide +kernel
theorem d_t_common_7 : decode b_t_common 7 = .ok (.ixor, 1) := by decide +kernel
theorem d_t_common_8 : decode b_t_common 8 = .ok (.invokestatic 52, 3) := by decide +kernel
theorem d_t_common_11 : decode b_t_common 11 = .ok (.invokestatic 46, 3) := by decide +kernel
theorem d_t_common_14 : decode b_t_common 14 = .ok (.ireturn, 1) := by decide +kernel
set_option maxHeartbeats 4000000 in
set_option maxRecDepth 100000 in
theorem c_t_common (l : Launch) (x0 x1 x2 x3 : Int32) (r : Int32) (h : j_t_common x0 x1 x2 x3 = some r) : Met l y_t_common (Cond.code y_t_common b_t_common 4 (some .int) :: gT) (rmL 1) (fun v _ => v = ([.int x0, .int x1, .int x2, .int x3] : List Value).toArray) (QcRead r) 0 0 (fun _ => False) := by
  refine S_met (by decide) (Nat.le_of_ble_eq_true rfl) ?_
  intro p e s m below meth c ls E hr hlocks hl
  have E : CallFix p m c b_t_common 4 s _ gT R_T := E
  have hx := E.1
  have hb := E.2.1
  have hl : lv_has ls 4 [(0, .int x0), (1, .int x1), (2, .int x2), (3, .int x3)] := hl
  unfold j_t_common at h
  refine lv_iload_n hx hb d_t_common_0 rfl (lv_at hl 1 rfl) ?_
  refine lv_iload_n hx hb d_t_common_1 rfl (lv_at hl 3 rfl) ?_
  obtain ⟨v2, e1, h⟩ := Option.bind_eq_some_iff.mp h
  obtain rfl : _ = v2 := Option.some.inj ((xmin_eq _ _).symm.trans e1)
  refine va_mmin (rest := []) hx hb (by rw [E.2.2.1]; exact hl.1.symm) E.2.2.2.1 (E.2.2.2.2 _ lk_t_min) (E.2.2.2.2 _ xmin_stat) (E.2.2.2.2 _ xmin_ini) (E.2.2.2.2 _ xmin_code) (Nat.le_of_ble_eq_true rfl) (Nat.le_of_ble_eq_true rfl) (Nat.le_of_ble_eq_true rfl) (Nat.le_of_ble_eq_true rfl) d_t_common_2 ?_
  refine lv_iload_n hx hb d_t_common_5 rfl (lv_at hl 0 rfl) ?_
  refine lv_iload_n hx hb d_t_common_6 rfl (lv_at hl 2 rfl) ?_
  refine lv_ixor hx hb d_t_common_7 ?_
  obtain ⟨v4, e3, h⟩ := Option.bind_eq_some_iff.mp h
  refine S_call (As := [.int (x0 ^^^ x2)]) (rest := [.int (if x3 < x1 then x3 else x1)]) (r := v4) E (c_i_nlz l (x0 ^^^ x2) v4 e3) k_i_nlz lk_t_52 ⟨Nat.le_of_ble_eq_true rfl, Nat.le_of_ble_eq_true rfl⟩ rfl hl.1 rfl (Nat.le_of_ble_eq_true rfl) d_t_common_8 ⟨Nat.le_of_ble_eq_true rfl, Nat.le_of_ble_eq_true rfl⟩ ?_
  obtain ⟨v6, e5, h⟩ := Option.bind_eq_some_iff.mp h
  obtain rfl : _ = v6 := Option.some.inj ((xmin_eq _ _).symm.trans e5)
  refine va_mmin (rest := []) hx hb (by rw [E.2.2.1]; exact hl.1.symm) E.2.2.2.1 (E.2.2.2.2 _ lk_t_min) (E.2.2.2.2 _ xmin_stat) (E.2.2.2.2 _ xmin_ini) (E.2.2.2.2 _ xmin_code) (Nat.le_of_ble_eq_true rfl) (Nat.le_of_ble_eq_true rfl) (Nat.le_of_ble_eq_true rfl) (Nat.le_of_ble_eq_true rfl) d_t_common_11 ?_
  cases h
  exact W.iret (v := _) hx hb hr (fun t ht hW => ⟨rfl, ht⟩) (fun q hq => by cases hq) d_t_common_14
theorem d_t_bit_0 : decode b_t_bit 0 = .ok (.iload_n 0, 1) := by decide +kernel
theorem d_t_bit_1 : decode b_t_bit 1 = .ok (.bipush 31, 2) := by decide +kernel
theorem d_t_bit_3 : decode b_t_bit 3 = .ok (.iload_n 1, 1) := by decide +kernel
theorem d_t_bit_4 : decode b_t_bit 4 = .ok (.isub, 1) := by decide +kernel
theorem d_t_bit_5 : decode b_t_bit 5 = .ok (.ishr, 1) := by decide +kernel
theorem d_t_bit_6 : decode b_t_bit 6 = .ok (.iconst 1, 1) := by decide +kernel
theorem d_t_bit_7 : decode b_t_bit 7 = .ok (.iand, 1) := by decide +kernel
theorem d_t_bit_8 : decode b_t_bit 8 = .ok (.iconst 1, 1) := by decide +kernel
theorem d_t_bit_9 : decode b_t_bit 9 = .ok (.if_icmp .ne 7, 3) := by decide +kernel
theorem d_t_bit_12 : decode b_t_bit 12 = .ok (.iconst 1, 1) := by decide +kernel
theorem d_t_bit_13 : decode b_t_bit 13 = .ok (.goto 4, 3) := by decide +kernel
theorem d_t_bit_16 : decode b_t_bit 16 = .ok (.iconst 0, 1) := by decide +kernel
theorem d_t_bit_17 : decode b_t_bit 17 = .ok (.ireturn, 1) := by decide +kernel
set_option maxHeartbeats 4000000 in
set_option maxRecDepth 100000 in
theorem c_t_bit (l : Launch) (x0 x1 : Int32) (r : Int32) (h : j_t_bit x0 x1 = some r) : Met l y_t_bit (Cond.code y_t_bit b_t_bit 2 (some .boolean) :: gT) (rmL 0) (fun v _ => v = ([.int x0, .int x1] : List Value).toArray) (QcRead r) 0 0 (fun _ => False) := by
  refine S_met (by decide) (Nat.le_of_ble_eq_true rfl) ?_
  intro p e s m below meth c ls E hr hlocks hl
  have E : CallFix p m c b_t_bit 2 s _ gT R_T := E
  have hx := E.1
  have hb := E.2.1
  have hl : lv_has ls 2 [(0, .int x0), (1, .int x1)] := hl
  unfold j_t_bit at h
  refine lv_iload_n hx hb d_t_bit_0 rfl (lv_at hl 0 rfl) ?_
  refine lv_bipush (v := 31) hx hb d_t_bit_1 (by decide) ?_
  refine lv_iload_n hx hb d_t_bit_3 rfl (lv_at hl 1 rfl) ?_
  refine lv_isub hx hb d_t_bit_4 ?_
  refine lv_ishr hx hb d_t_bit_5 ?_
  refine lv_iconst (v := 1) hx hb d_t_bit_6 (by decide) ?_
  refine lv_iand hx hb d_t_bit_7 ?_
  refine lv_iconst (v := 1) hx hb d_t_bit_8 (by decide) ?_
  refine lv_icmp_ne (tgt := 16) hx hb d_t_bit_9 (by decide) (fun c1 => ?_) (fun c1 => ?_)
  · rw [if_neg c1] at h
    refine lv_iconst (v := 0) hx hb d_t_bit_16 (by decide) ?_
    cases h
    exact W.zret (v := _) (ty := .boolean) hx hb hr rfl (fun t ht hW => ⟨rfl, ht⟩) (fun q hq => by cases hq) d_t_bit_17
  · rw [if_pos c1] at h
    refine lv_iconst (v := 1) hx hb d_t_bit_12 (by decide) ?_
    refine lv_goto (tgt := 17) hx hb d_t_bit_13 (by decide) ?_
    cases h
    exact W.zret (v := _) (ty := .boolean) hx hb hr rfl (fun t ht hW => ⟨rfl, ht⟩) (fun q hq => by cases hq) d_t_bit_17
theorem d_m_mask_0 : decode b_m_mask 0 = .ok (.iload_n 0, 1) := by decide +kernel
theorem d_m_mask_1 : decode b_m_mask 1 = .ok (.ifCond .ne 7, 3) := by decide +kernel
theorem d_m_mask_4 : decode b_m_mask 4 = .ok (.iconst 0, 1) := by decide +kernel
theorem d_m_mask_5 : decode b_m_mask 5 = .ok (.goto 9, 3) := by decide +kernel
theorem d_m_mask_8 : decode b_m_mask 8 = .ok (.iconst (-1), 1) := by decide +kernel
theorem d_m_mask_9 : decode b_m_mask 9 = .ok (.bipush 32, 2) := by decide +kernel
theorem d_m_mask_11 : decode b_m_mask 11 = .ok (.iload_n 0, 1) := by decide +kernel
theorem d_m_mask_12 : decode b_m_mask 12 = .ok (.isub, 1) := by decide +kernel
theorem d_m_mask_13 : decode b_m_mask 13 = .ok (.ishl, 1) := by decide +kernel
theorem d_m_mask_14 : decode b_m_mask 14 = .ok (.ireturn, 1) := by decide +kernel
set_option maxHeartbeats 4000000 in
set_option maxRecDepth 100000 in
theorem c_m_mask (l : Launch) (x0 : Int32) (r : Int32) (h : j_m_mask x0 = some r) : Met l y_m_mask (Cond.code y_m_mask b_m_mask 1 (some .int) :: gT) (rmL 0) (fun v _ => v = ([.int x0] : List Value).toArray) (QcRead r) 0 0 (fun _ => False) := by
  refine S_met (by decide) (Nat.le_of_ble_eq_true rfl) ?_
  intro p e s m below meth c ls E hr hlocks hl
  have E : CallFix p m c b_m_mask 1 s _ gT R_M := E
  have hx := E.1
  have hb := E.2.1
  have hl : lv_has ls 1 [(0, .int x0)] := hl
  unfold j_m_mask at h
  refine lv_iload_n hx hb d_m_mask_0 rfl (lv_at hl 0 rfl) ?_
  refine lv_if_ne (tgt := 8) hx hb d_m_mask_1 (by decide) (fun c1 => ?_) (fun c1 => ?_)
  · rw [if_neg c1] at h
    refine lv_iconst (v := (-1)) hx hb d_m_mask_8 (by decide) ?_
    refine lv_bipush (v := 32) hx hb d_m_mask_9 (by decide) ?_
    refine lv_iload_n hx hb d_m_mask_11 rfl (lv_at hl 0 rfl) ?_
    refine lv_isub hx hb d_m_mask_12 ?_
    refine lv_ishl hx hb d_m_mask_13 ?_
    cases h
    exact W.iret (v := _) hx hb hr (fun t ht hW => ⟨rfl, ht⟩) (fun q hq => by cases hq) d_m_mask_14
  · rw [if_pos c1] at h
    refine lv_iconst (v := 0) hx hb d_m_mask_4 (by decide) ?_
    refine lv_goto (tgt := 14) hx hb d_m_mask_5 (by decide) ?_
    cases h
    exact W.iret (v := _) hx hb hr (fun t ht hW => ⟨rfl, ht⟩) (fun q hq => by cases hq) d_m_mask_14
theorem d_m_isPrefix_0 : decode b_m_isPrefix 0 = .ok (.iload_n 1, 1) := by decide +kernel
theorem d_m_isPrefix_1 : decode b_m_isPrefix 1 = .ok (.ifCond .lt 38, 3) := by decide +kernel
theorem d_m_isPrefix_4 : decode b_m_isPrefix 4 = .ok (.iload_n 1, 1) := by decide +kernel
theorem d_m_isPrefix_5 : decode b_m_isPrefix 5 = .ok (.bipush 32, 2) := by decide +kernel
theorem d_m_isPrefix_7 : decode b_m_isPrefix 7 = .ok (.if_icmp .gt 32, 3) := by decide +kernel
theorem d_m_isPrefix_10 : decode b_m_isPrefix 10 = .ok (.iload_n 0, 1) := by decide +kernel
theorem d_m_isPrefix_11 : decode b_m_isPrefix 11 = .ok (.iload_n 1, 1) := by decide +kernel
theorem d_m_isPrefix_12 : decode b_m_isPrefix 12 = .ok (.ifCond .lt 9, 3) := by decide +kernel
theorem d_m_isPrefix_15 : decode b_m_isPrefix 15 = .ok (.iload_n 1, 1) := by decide +kernel
theorem d_m_isPrefix_16 : decode b_m_isPrefix 16 = .ok (.bipush 32, 2) := by decide +kernel
theorem d_m_isPrefix_18 : decode b_m_isPrefix 18 = .ok (.if_icmp .le 7, 3) := by decide +kernel
theorem d_m_isPrefix_21 : decode b_m_isPrefix 21 = .ok (.iconst 0, 1) := by decide +kernel
theorem d_m_isPrefix_22 : decode b_m_isPrefix 22 = .ok (.goto 4, 3) := by decide +kernel
theorem d_m_isPrefix_25 : decode b_m_isPrefix 25 = .ok (.iload_n 1, 1) := by decide +kernel
theorem d_m_isPrefix_26 : decode b_m_isPrefix 26 = .ok (.invokestatic 32, 3) := by decide +kernel
theorem d_m_isPrefix_29 : decode b_m_isPrefix 29 = .ok (.iconst (-1), 1) := by decide +kernel
theorem d_m_isPrefix_30 : decode b_m_isPrefix 30 = .ok (.ixor, 1) := by decide +kernel
theorem d_m_isPrefix_31 : decode b_m_isPrefix 31 = .ok (.iand, 1) := by decide +kernel
theorem d_m_isPrefix_32 : decode b_m_isPrefix 32 = .ok (.ifCond .ne 7, 3) := by decide +kernel
theorem d_m_isPrefix_35 : decode b_m_isPrefix 35 = .ok (.iconst 1, 1) := by decide +kernel
theorem d_m_isPrefix_36 : decode b_m_isPrefix 36 = .ok (.goto 4, 3) := by decide +kernel
theorem d_m_isPrefix_39 : decode b_m_isPrefix 39 = .ok (.iconst 0, 1) := by decide +kernel
theorem d_m_isPrefix_40 : decode b_m_isPrefix 40 = .ok (.ireturn, 1) := by decide +kernel
set_option maxHeartbeats 4000000 in
set_option maxRecDepth 100000 in
theorem c_m_isPrefix (l : Launch) (x0 x1 : Int32) (r : Int32) (h : j_m_isPrefix x0 x1 = some r) : Met l y_m_isPrefix (Cond.code y_m_isPrefix b_m_isPrefix 2 (some .boolean) :: gT) (rmL 1) (fun v _ => v = ([.int x0, .int x1] : List Value).toArray) (QcRead r) 0 0 (fun _ => False) := by
  refine S_met (by decide) (Nat.le_of_ble_eq_true rfl) ?_
  intro p e s m below meth c ls E hr hlocks hl
  have E : CallFix p m c b_m_isPrefix 2 s _ gT R_M := E
  have hx := E.1
  have hb := E.2.1
  have hl : lv_has ls 2 [(0, .int x0), (1, .int x1)] := hl
  unfold j_m_isPrefix at h
  refine lv_iload_n hx hb d_m_isPrefix_0 rfl (lv_at hl 1 rfl) ?_
  refine lv_if_lt (tgt := 39) hx hb d_m_isPrefix_1 (by decide) (fun c1 => ?_) (fun c1 => ?_)
  · rw [if_pos c1] at h
    refine lv_iconst (v := 0) hx hb d_m_isPrefix_39 (by decide) ?_
    cases h
    exact W.zret (v := _) (ty := .boolean) hx hb hr rfl (fun t ht hW => ⟨rfl, ht⟩) (fun q hq => by cases hq) d_m_isPrefix_40
  · rw [if_neg c1] at h
    refine lv_iload_n hx hb d_m_isPrefix_4 rfl (lv_at hl 1 rfl) ?_
    refine lv_bipush (v := 32) hx hb d_m_isPrefix_5 (by decide) ?_
    refine lv_icmp_gt (tgt := 39) hx hb d_m_isPrefix_7 (by decide) (fun c2 => ?_) (fun c2 => ?_)
    · rw [if_pos c2] at h
      refine lv_iconst (v := 0) hx hb d_m_isPrefix_39 (by decide) ?_
      cases h
      exact W.zret (v := _) (ty := .boolean) hx hb hr rfl (fun t ht hW => ⟨rfl, ht⟩) (fun q hq => by cases hq) d_m_isPrefix_40
    · rw [if_neg c2] at h
      refine lv_iload_n hx hb d_m_isPrefix_10 rfl (lv_at hl 0 rfl) ?_
      refine lv_iload_n hx hb d_m_isPrefix_11 rfl (lv_at hl 1 rfl) ?_
      refine lv_if_lt (tgt := 21) hx hb d_m_isPrefix_12 (by decide) (fun c3 => absurd c3 c1) (fun _ => ?_)
      refine lv_iload_n hx hb d_m_isPrefix_15 rfl (lv_at hl 1 rfl) ?_
      refine lv_bipush (v := 32) hx hb d_m_isPrefix_16 (by decide) ?_
      refine lv_icmp_le (tgt := 25) hx hb d_m_isPrefix_18 (by decide) (fun c4 => ?_) (fun c4 => ?_)
      · rw [if_pos c4] at h
        refine lv_iload_n hx hb d_m_isPrefix_25 rfl (lv_at hl 1 rfl) ?_
        obtain ⟨v6, e5, h⟩ := Option.bind_eq_some_iff.mp h
        refine S_call (As := [.int x1]) (rest := [.int x0]) (r := v6) E (c_m_mask l x1 v6 e5) k_m_mask lk_m_32 ⟨Nat.le_of_ble_eq_true rfl, Nat.le_of_ble_eq_true rfl⟩ rfl hl.1 rfl (Nat.le_of_ble_eq_true rfl) d_m_isPrefix_26 ⟨Nat.le_of_ble_eq_true rfl, Nat.le_of_ble_eq_true rfl⟩ ?_
        refine lv_iconst (v := (-1)) hx hb d_m_isPrefix_29 (by decide) ?_
        refine lv_ixor hx hb d_m_isPrefix_30 ?_
        refine lv_iand hx hb d_m_isPrefix_31 ?_
        refine lv_if_ne (tgt := 39) hx hb d_m_isPrefix_32 (by decide) (fun c7 => ?_) (fun c7 => ?_)
        · rw [if_neg c7] at h
          refine lv_iconst (v := 0) hx hb d_m_isPrefix_39 (by decide) ?_
          cases h
          exact W.zret (v := _) (ty := .boolean) hx hb hr rfl (fun t ht hW => ⟨rfl, ht⟩) (fun q hq => by cases hq) d_m_isPrefix_40
        · rw [if_pos c7] at h
          refine lv_iconst (v := 1) hx hb d_m_isPrefix_35 (by decide) ?_
          refine lv_goto (tgt := 40) hx hb d_m_isPrefix_36 (by decide) ?_
          cases h
          exact W.zret (v := _) (ty := .boolean) hx hb hr rfl (fun t ht hW => ⟨rfl, ht⟩) (fun q hq => by cases hq) d_m_isPrefix_40
      · rw [if_neg c4] at h
        refine lv_iconst (v := 0) hx hb d_m_isPrefix_21 (by decide) ?_
        refine lv_goto (tgt := 26) hx hb d_m_isPrefix_22 (by decide) ?_
        obtain ⟨v9, e8, h⟩ := Option.bind_eq_some_iff.mp h
        refine S_call (As := [.int 0]) (rest := [.int x0]) (r := v9) E (c_m_mask l 0 v9 e8) k_m_mask lk_m_32 ⟨Nat.le_of_ble_eq_true rfl, Nat.le_of_ble_eq_true rfl⟩ rfl hl.1 rfl (Nat.le_of_ble_eq_true rfl) d_m_isPrefix_26 ⟨Nat.le_of_ble_eq_true rfl, Nat.le_of_ble_eq_true rfl⟩ ?_
        refine lv_iconst (v := (-1)) hx hb d_m_isPrefix_29 (by decide) ?_
        refine lv_ixor hx hb d_m_isPrefix_30 ?_
        refine lv_iand hx hb d_m_isPrefix_31 ?_
        refine lv_if_ne (tgt := 39) hx hb d_m_isPrefix_32 (by decide) (fun c10 => ?_) (fun c10 => ?_)
        · rw [if_neg c10] at h
          refine lv_iconst (v := 0) hx hb d_m_isPrefix_39 (by decide) ?_
          cases h
          exact W.zret (v := _) (ty := .boolean) hx hb hr rfl (fun t ht hW => ⟨rfl, ht⟩) (fun q hq => by cases hq) d_m_isPrefix_40
        · rw [if_pos c10] at h
          refine lv_iconst (v := 1) hx hb d_m_isPrefix_35 (by decide) ?_
          refine lv_goto (tgt := 40) hx hb d_m_isPrefix_36 (by decide) ?_
          cases h
          exact W.zret (v := _) (ty := .boolean) hx hb hr rfl (fun t ht hW => ⟨rfl, ht⟩) (fun q hq => by cases hq) d_m_isPrefix_40
theorem d_m_begins_0 : decode b_m_begins 0 = .ok (.iload_n 0, 1) := by decide +kernel
theorem d_m_begins_1 : decode b_m_begins 1 = .ok (.iload_n 2, 1) := by decide +kernel
theorem d_m_begins_2 : decode b_m_begins 2 = .ok (.invokestatic 32, 3) := by decide +kernel
theorem d_m_begins_5 : decode b_m_begins 5 = .ok (.iand, 1) := by decide +kernel
theorem d_m_begins_6 : decode b_m_begins 6 = .ok (.iload_n 1, 1) := by decide +kernel
theorem d_m_begins_7 : decode b_m_begins 7 = .ok (.if_icmp .ne 7, 3) := by decide +kernel
theorem d_m_begins_10 : decode b_m_begins 10 = .ok (.iconst 1, 1) := by decide +kernel
theorem d_m_begins_11 : decode b_m_begins 11 = .ok (.goto 4, 3) := by decide +kernel
theorem d_m_begins_14 : decode b_m_begins 14 = .ok (.iconst 0, 1) := by decide +kernel
theorem d_m_begins_15 : decode b_m_begins 15 = .ok (.ireturn, 1) := by decide +kernel
set_option maxHeartbeats 4000000 in
set_option maxRecDepth 100000 in
theorem c_m_begins (l : Launch) (x0 x1 x2 : Int32) (r : Int32) (h : j_m_begins x0 x1 x2 = some r) : Met l y_m_begins (Cond.code y_m_begins b_m_begins 3 (some .boolean) :: gT) (rmL 1) (fun v _ => v = ([.int x0, .int x1, .int x2] : List Value).toArray) (QcRead r) 0 0 (fun _ => False) := by
  refine S_met (by decide) (Nat.le_of_ble_eq_true rfl) ?_
  intro p e s m below meth c ls E hr hlocks hl
  have E : CallFix p m c b_m_begins 3 s _ gT R_M := E
  have hx := E.1
  have hb := E.2.1
  have hl : lv_has ls 3 [(0, .int x0), (1, .int x1), (2, .int x2)] := hl
  unfold j_m_begins at h
  refine lv_iload_n hx hb d_m_begins_0 rfl (lv_at hl 0 rfl) ?_
  refine lv_iload_n hx hb d_m_begins_1 rfl (lv_at hl 2 rfl) ?_
  obtain ⟨v2, e1, h⟩ := Option.bind_eq_some_iff.mp h
  refine S_call (As := [.int x2]) (rest := [.int x0]) (r := v2) E (c_m_mask l x2 v2 e1) k_m_mask lk_m_32 ⟨Nat.le_of_ble_eq_true rfl, Nat.le_of_ble_eq_true rfl⟩ rfl hl.1 rfl (Nat.le_of_ble_eq_true rfl) d_m_begins_2 ⟨Nat.le_of_ble_eq_true rfl, Nat.le_of_ble_eq_true rfl⟩ ?_
  refine lv_iand hx hb d_m_begins_5 ?_
  refine lv_iload_n hx hb d_m_begins_6 rfl (lv_at hl 1 rfl) ?_
  refine lv_icmp_ne (tgt := 14) hx hb d_m_begins_7 (by decide) (fun c3 => ?_) (fun c3 => ?_)
  · rw [if_neg c3] at h
    refine lv_iconst (v := 0) hx hb d_m_begins_14 (by decide) ?_
    cases h
    exact W.zret (v := _) (ty := .boolean) hx hb hr rfl (fun t ht hW => ⟨rfl, ht⟩) (fun q hq => by cases hq) d_m_begins_15
  · rw [if_pos c3] at h
    refine lv_iconst (v := 1) hx hb d_m_begins_10 (by decide) ?_
    refine lv_goto (tgt := 15) hx hb d_m_begins_11 (by decide) ?_
    cases h
    exact W.zret (v := _) (ty := .boolean) hx hb hr rfl (fun t ht hW => ⟨rfl, ht⟩) (fun q hq => by cases hq) d_m_begins_15
end
section
theorem d_t_make_0 : decode b_t_make 0 = .ok (.aload_n 0, 1) := by decide +kernel
theorem d_t_make_1 : decode b_t_make 1 = .ok (.getfield 31, 3) := by decide +kernel
theorem d_t_make_4 : decode b_t_make 4 = .ok (.istore 4, 2) := by decide +kernel
theorem d_t_make_6 : decode b_t_make 6 = .ok (.aload_n 0, 1) := by decide +kernel
theorem d_t_make_7 : decode b_t_make 7 = .ok (.aload_n 0, 1) := by decide +kernel
theorem d_t_make_8 : decode b_t_make 8 = .ok (.getfield 19, 3) := by decide +kernel
theorem d_t_make_11 : decode b_t_make 11 = .ok (.iload 4, 2) := by decide +kernel
theorem d_t_make_13 : decode b_t_make 13 = .ok (.iaload, 1) := by decide +kernel
theorem d_t_make_14 : decode b_t_make 14 = .ok (.putfield 31, 3) := by decide +kernel
theorem d_t_make_17 : decode b_t_make 17 = .ok (.aload_n 0, 1) := by decide +kernel
theorem d_t_make_18 : decode b_t_make 18 = .ok (.dup, 1) := by decide +kernel
theorem d_t_make_19 : decode b_t_make 19 = .ok (.getfield 35, 3) := by decide +kernel
theorem d_t_make_22 : decode b_t_make 22 = .ok (.iconst 1, 1) := by decide +kernel
theorem d_t_make_23 : decode b_t_make 23 = .ok (.iadd, 1) := by decide +kernel
theorem d_t_make_24 : decode b_t_make 24 = .ok (.putfield 35, 3) := by decide +kernel
theorem d_t_make_27 : decode b_t_make 27 = .ok (.aload_n 0, 1) := by decide +kernel
theorem d_t_make_28 : decode b_t_make 28 = .ok (.getfield 9, 3) := by decide +kernel
theorem d_t_make_31 : decode b_t_make 31 = .ok (.iload 4, 2) := by decide +kernel
theorem d_t_make_33 : decode b_t_make 33 = .ok (.iload_n 1, 1) := by decide +kernel
theorem d_t_make_34 : decode b_t_make 34 = .ok (.iastore, 1) := by decide +kernel
theorem d_t_make_35 : decode b_t_make 35 = .ok (.aload_n 0, 1) := by decide +kernel
theorem d_t_make_36 : decode b_t_make 36 = .ok (.getfield 13, 3) := by decide +kernel
theorem d_t_make_39 : decode b_t_make 39 = .ok (.iload 4, 2) := by decide +kernel
theorem d_t_make_41 : decode b_t_make 41 = .ok (.iload_n 2, 1) := by decide +kernel
theorem d_t_make_42 : decode b_t_make 42 = .ok (.iastore, 1) := by decide +kernel
theorem d_t_make_43 : decode b_t_make 43 = .ok (.aload_n 0, 1) := by decide +kernel
theorem d_t_make_44 : decode b_t_make 44 = .ok (.getfield 16, 3) := by decide +kernel
theorem d_t_make_47 : decode b_t_make 47 = .ok (.iload 4, 2) := by decide +kernel
theorem d_t_make_49 : decode b_t_make 49 = .ok (.iload_n 3, 1) := by decide +kernel
theorem d_t_make_50 : decode b_t_make 50 = .ok (.iastore, 1) := by decide +kernel
theorem d_t_make_51 : decode b_t_make 51 = .ok (.aload_n 0, 1) := by decide +kernel
theorem d_t_make_52 : decode b_t_make 52 = .ok (.getfield 19, 3) := by decide +kernel
theorem d_t_make_55 : decode b_t_make 55 = .ok (.iload 4, 2) := by decide +kernel
theorem d_t_make_57 : decode b_t_make 57 = .ok (.iconst (-1), 1) := by decide +kernel
theorem d_t_make_58 : decode b_t_make 58 = .ok (.iastore, 1) := by decide +kernel
theorem d_t_make_59 : decode b_t_make 59 = .ok (.aload_n 0, 1) := by decide +kernel
theorem d_t_make_60 : decode b_t_make 60 = .ok (.getfield 22, 3) := by decide +kernel
theorem d_t_make_63 : decode b_t_make 63 = .ok (.iload 4, 2) := by decide +kernel
theorem d_t_make_65 : decode b_t_make 65 = .ok (.iconst (-1), 1) := by decide +kernel
theorem d_t_make_66 : decode b_t_make 66 = .ok (.iastore, 1) := by decide +kernel
theorem d_t_make_67 : decode b_t_make 67 = .ok (.aload_n 0, 1) := by decide +kernel
theorem d_t_make_68 : decode b_t_make 68 = .ok (.getfield 25, 3) := by decide +kernel
theorem d_t_make_71 : decode b_t_make 71 = .ok (.iload 4, 2) := by decide +kernel
theorem d_t_make_73 : decode b_t_make 73 = .ok (.iconst 0, 1) := by decide +kernel
theorem d_t_make_74 : decode b_t_make 74 = .ok (.iastore, 1) := by decide +kernel
theorem d_t_make_75 : decode b_t_make 75 = .ok (.iload 4, 2) := by decide +kernel
theorem d_t_make_77 : decode b_t_make 77 = .ok (.ireturn, 1) := by decide +kernel
set_option maxHeartbeats 4000000 in
set_option maxRecDepth 100000 in
theorem c_t_make (l : Launch) (D : va_G) (a : Nat → Nat) (cA : ClassId) (S : TS) (x1 x2 x3 : Int32) (r : Int32) (S' : TS) (h : j_t_make S x1 x2 x3 = some (r, S')) : Met l y_t_make (Cond.code y_t_make b_t_make 5 (some .int) :: gT) (rmL 0) (mPcT D a cA S [.ref (a 0), .int x1, .int x2, .int x3]) (mQcT D a cA (some (.int r)) S') 0 0 (aT a) := by
  refine T_metM (by decide) (Nat.le_of_ble_eq_true rfl) ?_
  intro p e s m below meth c ls E hr hlocks hP hK hD hS hl
  have E : CallFix p m c b_t_make 5 s _ gT R_T := E
  have hx := E.1
  have hb := E.2.1
  have hl : lv_has ls 5 [(0, .ref (a 0)), (1, .int x1), (2, .int x2), (3, .int x3)] := hl
  unfold j_t_make at h
  refine lv_aload_n hx hb d_t_make_0 rfl (lv_at hl 0 rfl) ?_
  refine tg_F E hK hP d_t_make_1 ?_
  refine lv_istore (lv' := [(4, .int (sF S)), (0, .ref (a 0)), (1, .int x1), (2, .int x2), (3, .int x3)]) hx hb d_t_make_4 hl (by decide) rfl (fun ls hl => ?_)
  refine lv_aload_n hx hb d_t_make_6 rfl (lv_at hl 1 rfl) ?_
  refine lv_aload_n hx hb d_t_make_7 rfl (lv_at hl 1 rfl) ?_
  refine tg_Z E hK hP d_t_make_8 ?_
  refine lv_iload hx hb d_t_make_11 (lv_at hl 0 rfl) ?_
  obtain ⟨g1, h⟩ := gd_some h
  refine ta_Z E hK hP g1 d_t_make_13 ?_
  refine tp_F E hK hD hP hS d_t_make_14 (fun H locs hP hS => ?_)
  refine lv_aload_n hx hb d_t_make_17 rfl (lv_at hl 1 rfl) ?_
  refine lv_dup hx hb d_t_make_18 rfl ?_
  refine tg_U E hK hP d_t_make_19 ?_
  refine lv_iconst (v := 1) hx hb d_t_make_22 (by decide) ?_
  refine lv_iadd hx hb d_t_make_23 ?_
  refine tp_U E hK hD hP hS d_t_make_24 (fun H locs hP hS => ?_)
  refine lv_aload_n hx hb d_t_make_27 rfl (lv_at hl 1 rfl) ?_
  refine tg_B E hK hP d_t_make_28 ?_
  refine lv_iload hx hb d_t_make_31 (lv_at hl 0 rfl) ?_
  refine lv_iload_n hx hb d_t_make_33 rfl (lv_at hl 2 rfl) ?_
  refine ts_B E hK hD hP hS g1 d_t_make_34 (fun H locs hP hS => ?_)
  refine lv_aload_n hx hb d_t_make_35 rfl (lv_at hl 1 rfl) ?_
  refine tg_L E hK hP d_t_make_36 ?_
  refine lv_iload hx hb d_t_make_39 (lv_at hl 0 rfl) ?_
  refine lv_iload_n hx hb d_t_make_41 rfl (lv_at hl 3 rfl) ?_
  refine ts_L E hK hD hP hS g1 d_t_make_42 (fun H locs hP hS => ?_)
  refine lv_aload_n hx hb d_t_make_43 rfl (lv_at hl 1 rfl) ?_
  refine tg_H E hK hP d_t_make_44 ?_
  refine lv_iload hx hb d_t_make_47 (lv_at hl 0 rfl) ?_
  refine lv_iload_n hx hb d_t_make_49 rfl (lv_at hl 4 rfl) ?_
  refine ts_H E hK hD hP hS g1 d_t_make_50 (fun H locs hP hS => ?_)
  refine lv_aload_n hx hb d_t_make_51 rfl (lv_at hl 1 rfl) ?_
  refine tg_Z E hK hP d_t_make_52 ?_
  refine lv_iload hx hb d_t_make_55 (lv_at hl 0 rfl) ?_
  refine lv_iconst (v := (-1)) hx hb d_t_make_57 (by decide) ?_
  refine ts_Z E hK hD hP hS g1 d_t_make_58 (fun H locs hP hS => ?_)
  refine lv_aload_n hx hb d_t_make_59 rfl (lv_at hl 1 rfl) ?_
  refine tg_O E hK hP d_t_make_60 ?_
  refine lv_iload hx hb d_t_make_63 (lv_at hl 0 rfl) ?_
  refine lv_iconst (v := (-1)) hx hb d_t_make_65 (by decide) ?_
  refine ts_O E hK hD hP hS g1 d_t_make_66 (fun H locs hP hS => ?_)
  refine lv_aload_n hx hb d_t_make_67 rfl (lv_at hl 1 rfl) ?_
  refine tg_W E hK hP d_t_make_68 ?_
  refine lv_iload hx hb d_t_make_71 (lv_at hl 0 rfl) ?_
  refine lv_iconst (v := 0) hx hb d_t_make_73 (by decide) ?_
  refine ts_W E hK hD hP hS g1 d_t_make_74 (fun H locs hP hS => ?_)
  refine lv_iload hx hb d_t_make_75 (lv_at hl 0 rfl) ?_
  cases h
  exact W.iret (v := _) hx hb hr (fun t ht hW => ⟨rfl, by rw [ht]; exact hP, hS.F ht⟩) hS.2.2 d_t_make_77
theorem d_t_drop_0 : decode b_t_drop 0 = .ok (.aload_n 0, 1) := by decide +kernel
theorem d_t_drop_1 : decode b_t_drop 1 = .ok (.getfield 19, 3) := by decide +kernel
theorem d_t_drop_4 : decode b_t_drop 4 = .ok (.iload_n 1, 1) := by decide +kernel
theorem d_t_drop_5 : decode b_t_drop 5 = .ok (.aload_n 0, 1) := by decide +kernel
theorem d_t_drop_6 : decode b_t_drop 6 = .ok (.getfield 31, 3) := by decide +kernel
theorem d_t_drop_9 : decode b_t_drop 9 = .ok (.iastore, 1) := by decide +kernel
theorem d_t_drop_10 : decode b_t_drop 10 = .ok (.aload_n 0, 1) := by decide +kernel
theorem d_t_drop_11 : decode b_t_drop 11 = .ok (.iload_n 1, 1) := by decide +kernel
theorem d_t_drop_12 : decode b_t_drop 12 = .ok (.putfield 31, 3) := by decide +kernel
theorem d_t_drop_15 : decode b_t_drop 15 = .ok (.aload_n 0, 1) := by decide +kernel
theorem d_t_drop_16 : decode b_t_drop 16 = .ok (.dup, 1) := by decide +kernel
theorem d_t_drop_17 : decode b_t_drop 17 = .ok (.getfield 35, 3) := by decide +kernel
theorem d_t_drop_20 : decode b_t_drop 20 = .ok (.iconst 1, 1) := by decide +kernel
theorem d_t_drop_21 : decode b_t_drop 21 = .ok (.isub, 1) := by decide +kernel
theorem d_t_drop_22 : decode b_t_drop 22 = .ok (.putfield 35, 3) := by decide +kernel
theorem d_t_drop_25 : decode b_t_drop 25 = .ok (.return_, 1) := by decide +kernel
set_option maxHeartbeats 4000000 in
set_option maxRecDepth 100000 in
theorem c_t_drop (l : Launch) (D : va_G) (a : Nat → Nat) (cA : ClassId) (S : TS) (x1 : Int32) (S' : TS) (h : j_t_drop S x1 = some S') : Met l y_t_drop (Cond.code y_t_drop b_t_drop 2 (none) :: gT) (rmL 0) (mPcT D a cA S [.ref (a 0), .int x1]) (mQcT D a cA none S') 0 0 (aT a) := by
  refine T_metM (by decide) (Nat.le_of_ble_eq_true rfl) ?_
  intro p e s m below meth c ls E hr hlocks hP hK hD hS hl
  have E : CallFix p m c b_t_drop 2 s _ gT R_T := E
  have hx := E.1
  have hb := E.2.1
  have hl : lv_has ls 2 [(0, .ref (a 0)), (1, .int x1)] := hl
  unfold j_t_drop at h
  refine lv_aload_n hx hb d_t_drop_0 rfl (lv_at hl 0 rfl) ?_
  refine tg_Z E hK hP d_t_drop_1 ?_
  refine lv_iload_n hx hb d_t_drop_4 rfl (lv_at hl 1 rfl) ?_
  refine lv_aload_n hx hb d_t_drop_5 rfl (lv_at hl 0 rfl) ?_
  refine tg_F E hK hP d_t_drop_6 ?_
  obtain ⟨g1, h⟩ := gd_some h
  refine ts_Z E hK hD hP hS g1 d_t_drop_9 (fun H locs hP hS => ?_)
  refine lv_aload_n hx hb d_t_drop_10 rfl (lv_at hl 0 rfl) ?_
  refine lv_iload_n hx hb d_t_drop_11 rfl (lv_at hl 1 rfl) ?_
  refine tp_F E hK hD hP hS d_t_drop_12 (fun H locs hP hS => ?_)
  refine lv_aload_n hx hb d_t_drop_15 rfl (lv_at hl 0 rfl) ?_
  refine lv_dup hx hb d_t_drop_16 rfl ?_
  refine tg_U E hK hP d_t_drop_17 ?_
  refine lv_iconst (v := 1) hx hb d_t_drop_20 (by decide) ?_
  refine lv_isub hx hb d_t_drop_21 ?_
  refine tp_U E hK hD hP hS d_t_drop_22 (fun H locs hP hS => ?_)
  cases h
  exact W.vret hx hb hr (fun t ht hW => ⟨rfl, by rw [ht]; exact hP, hS.F ht⟩) hS.2.2 d_t_drop_25
theorem d_t_child_0 : decode b_t_child 0 = .ok (.iload_n 2, 1) := by decide +kernel
theorem d_t_child_1 : decode b_t_child 1 = .ok (.aload_n 0, 1) := by decide +kernel
theorem d_t_child_2 : decode b_t_child 2 = .ok (.getfield 13, 3) := by decide +kernel
theorem d_t_child_5 : decode b_t_child 5 = .ok (.iload_n 1, 1) := by decide +kernel
theorem d_t_child_6 : decode b_t_child 6 = .ok (.iaload, 1) := by decide +kernel
theorem d_t_child_7 : decode b_t_child 7 = .ok (.invokestatic 57, 3) := by decide +kernel
theorem d_t_child_10 : decode b_t_child 10 = .ok (.ifCond .eq 12, 3) := by decide +kernel
theorem d_t_child_13 : decode b_t_child 13 = .ok (.aload_n 0, 1) := by decide +kernel
theorem d_t_child_14 : decode b_t_child 14 = .ok (.getfield 22, 3) := by decide +kernel
theorem d_t_child_17 : decode b_t_child 17 = .ok (.iload_n 1, 1) := by decide +kernel
theorem d_t_child_18 : decode b_t_child 18 = .ok (.iaload, 1) := by decide +kernel
theorem d_t_child_19 : decode b_t_child 19 = .ok (.goto 9, 3) := by decide +kernel
theorem d_t_child_22 : decode b_t_child 22 = .ok (.aload_n 0, 1) := by decide +kernel
theorem d_t_child_23 : decode b_t_child 23 = .ok (.getfield 19, 3) := by decide +kernel
theorem d_t_child_26 : decode b_t_child 26 = .ok (.iload_n 1, 1) := by decide +kernel
theorem d_t_child_27 : decode b_t_child 27 = .ok (.iaload, 1) := by decide +kernel
theorem d_t_child_28 : decode b_t_child 28 = .ok (.ireturn, 1) := by decide +kernel
set_option maxHeartbeats 4000000 in
set_option maxRecDepth 100000 in
theorem c_t_child (l : Launch) (D : va_G) (a : Nat → Nat) (cA : ClassId) (S : TS) (x1 x2 : Int32) (r : Int32) (h : j_t_child S x1 x2 = some r) : Met l y_t_child (Cond.code y_t_child b_t_child 3 (some .int) :: gT) (rmL 1) (rPcT D a cA S [.ref (a 0), .int x1, .int x2]) (QcRead r) 0 0 (fun _ => False) := by
  refine T_metR (by decide) (Nat.le_of_ble_eq_true rfl) ?_
  intro p e s m below meth c ls E hr hlocks hP hK hl
  have E : CallFix p m c b_t_child 3 s _ gT R_T := E
  have hx := E.1
  have hb := E.2.1
  have hl : lv_has ls 3 [(0, .ref (a 0)), (1, .int x1), (2, .int x2)] := hl
  unfold j_t_child at h
  refine lv_iload_n hx hb d_t_child_0 rfl (lv_at hl 2 rfl) ?_
  refine lv_aload_n hx hb d_t_child_1 rfl (lv_at hl 0 rfl) ?_
  refine tg_L E hK hP d_t_child_2 ?_
  refine lv_iload_n hx hb d_t_child_5 rfl (lv_at hl 1 rfl) ?_
  obtain ⟨g1, h⟩ := gd_some h
  refine ta_L E hK hP g1 d_t_child_6 ?_
  obtain ⟨v3, e2, h⟩ := Option.bind_eq_some_iff.mp h
  refine S_call (As := [.int x2, .int (sL S (cl x1))]) (rest := []) (r := v3) E (c_t_bit l x2 (sL S (cl x1)) v3 e2) k_t_bit lk_t_57 ⟨Nat.le_of_ble_eq_true rfl, Nat.le_of_ble_eq_true rfl⟩ rfl hl.1 rfl (Nat.le_of_ble_eq_true rfl) d_t_child_7 ⟨Nat.le_of_ble_eq_true rfl, Nat.le_of_ble_eq_true rfl⟩ ?_
  refine lv_if_eq (tgt := 22) hx hb d_t_child_10 (by decide) (fun c4 => ?_) (fun c4 => ?_)
  · rw [if_pos c4] at h
    refine lv_aload_n hx hb d_t_child_22 rfl (lv_at hl 0 rfl) ?_
    refine tg_Z E hK hP d_t_child_23 ?_
    refine lv_iload_n hx hb d_t_child_26 rfl (lv_at hl 1 rfl) ?_
    refine ta_Z E hK hP g1 d_t_child_27 ?_
    cases h
    exact W.iret (v := _) hx hb hr (fun t ht hW => ⟨rfl, ht⟩) (fun q hq => by cases hq) d_t_child_28
  · rw [if_neg c4] at h
    refine lv_aload_n hx hb d_t_child_13 rfl (lv_at hl 0 rfl) ?_
    refine tg_O E hK hP d_t_child_14 ?_
    refine lv_iload_n hx hb d_t_child_17 rfl (lv_at hl 1 rfl) ?_
    refine ta_O E hK hP g1 d_t_child_18 ?_
    refine lv_goto (tgt := 28) hx hb d_t_child_19 (by decide) ?_
    cases h
    exact W.iret (v := _) hx hb hr (fun t ht hW => ⟨rfl, ht⟩) (fun q hq => by cases hq) d_t_child_28
theorem d_t_hang_0 : decode b_t_hang 0 = .ok (.iload_n 3, 1) := by decide +kernel
theorem d_t_hang_1 : decode b_t_hang 1 = .ok (.aload_n 0, 1) := by decide +kernel
theorem d_t_hang_2 : decode b_t_hang 2 = .ok (.getfield 13, 3) := by decide +kernel
theorem d_t_hang_5 : decode b_t_hang 5 = .ok (.iload_n 1, 1) := by decide +kernel
theorem d_t_hang_6 : decode b_t_hang 6 = .ok (.iaload, 1) := by decide +kernel
theorem d_t_hang_7 : decode b_t_hang 7 = .ok (.invokestatic 57, 3) := by decide +kernel
theorem d_t_hang_10 : decode b_t_hang 10 = .ok (.ifCond .eq 13, 3) := by decide +kernel
theorem d_t_hang_13 : decode b_t_hang 13 = .ok (.aload_n 0, 1) := by decide +kernel
theorem d_t_hang_14 : decode b_t_hang 14 = .ok (.getfield 22, 3) := by decide +kernel
theorem d_t_hang_17 : decode b_t_hang 17 = .ok (.iload_n 1, 1) := by decide +kernel
theorem d_t_hang_18 : decode b_t_hang 18 = .ok (.iload_n 2, 1) := by decide +kernel
theorem d_t_hang_19 : decode b_t_hang 19 = .ok (.iastore, 1) := by decide +kernel
theorem d_t_hang_20 : decode b_t_hang 20 = .ok (.goto 10, 3) := by decide +kernel
theorem d_t_hang_23 : decode b_t_hang 23 = .ok (.aload_n 0, 1) := by decide +kernel
theorem d_t_hang_24 : decode b_t_hang 24 = .ok (.getfield 19, 3) := by decide +kernel
theorem d_t_hang_27 : decode b_t_hang 27 = .ok (.iload_n 1, 1) := by decide +kernel
theorem d_t_hang_28 : decode b_t_hang 28 = .ok (.iload_n 2, 1) := by decide +kernel
theorem d_t_hang_29 : decode b_t_hang 29 = .ok (.iastore, 1) := by decide +kernel
theorem d_t_hang_30 : decode b_t_hang 30 = .ok (.return_, 1) := by decide +kernel
set_option maxHeartbeats 4000000 in
set_option maxRecDepth 100000 in
theorem c_t_hang (l : Launch) (D : va_G) (a : Nat → Nat) (cA : ClassId) (S : TS) (x1 x2 x3 : Int32) (S' : TS) (h : j_t_hang S x1 x2 x3 = some S') : Met l y_t_hang (Cond.code y_t_hang b_t_hang 4 (none) :: gT) (rmL 1) (mPcT D a cA S [.ref (a 0), .int x1, .int x2, .int x3]) (mQcT D a cA none S') 0 0 (aT a) := by
  refine T_metM (by decide) (Nat.le_of_ble_eq_true rfl) ?_
  intro p e s m below meth c ls E hr hlocks hP hK hD hS hl
  have E : CallFix p m c b_t_hang 4 s _ gT R_T := E
  have hx := E.1
  have hb := E.2.1
  have hl : lv_has ls 4 [(0, .ref (a 0)), (1, .int x1), (2, .int x2), (3, .int x3)] := hl
  unfold j_t_hang at h
  refine lv_iload_n hx hb d_t_hang_0 rfl (lv_at hl 3 rfl) ?_
  refine lv_aload_n hx hb d_t_hang_1 rfl (lv_at hl 0 rfl) ?_
  refine tg_L E hK hP d_t_hang_2 ?_
  refine lv_iload_n hx hb d_t_hang_5 rfl (lv_at hl 1 rfl) ?_
  obtain ⟨g1, h⟩ := gd_some h
  refine ta_L E hK hP g1 d_t_hang_6 ?_
  obtain ⟨v3, e2, h⟩ := Option.bind_eq_some_iff.mp h
  refine S_call (As := [.int x3, .int (sL S (cl x1))]) (rest := []) (r := v3) E (c_t_bit l x3 (sL S (cl x1)) v3 e2) k_t_bit lk_t_57 ⟨Nat.le_of_ble_eq_true rfl, Nat.le_of_ble_eq_true rfl⟩ rfl hl.1 rfl (Nat.le_of_ble_eq_true rfl) d_t_hang_7 ⟨Nat.le_of_ble_eq_true rfl, Nat.le_of_ble_eq_true rfl⟩ ?_
  refine lv_if_eq (tgt := 23) hx hb d_t_hang_10 (by decide) (fun c4 => ?_) (fun c4 => ?_)
  · rw [if_pos c4] at h
    refine lv_aload_n hx hb d_t_hang_23 rfl (lv_at hl 0 rfl) ?_
    refine tg_Z E hK hP d_t_hang_24 ?_
    refine lv_iload_n hx hb d_t_hang_27 rfl (lv_at hl 1 rfl) ?_
    refine lv_iload_n hx hb d_t_hang_28 rfl (lv_at hl 2 rfl) ?_
    refine ts_Z E hK hD hP hS g1 d_t_hang_29 (fun H locs hP hS => ?_)
    cases h
    exact W.vret hx hb hr (fun t ht hW => ⟨rfl, by rw [ht]; exact hP, hS.F ht⟩) hS.2.2 d_t_hang_30
  · rw [if_neg c4] at h
    refine lv_aload_n hx hb d_t_hang_13 rfl (lv_at hl 0 rfl) ?_
    refine tg_O E hK hP d_t_hang_14 ?_
    refine lv_iload_n hx hb d_t_hang_17 rfl (lv_at hl 1 rfl) ?_
    refine lv_iload_n hx hb d_t_hang_18 rfl (lv_at hl 2 rfl) ?_
    refine ts_O E hK hD hP hS g1 d_t_hang_19 (fun H locs hP hS => ?_)
    refine lv_goto (tgt := 30) hx hb d_t_hang_20 (by decide) ?_
    cases h
    exact W.vret hx hb hr (fun t ht hW => ⟨rfl, by rw [ht]; exact hP, hS.F ht⟩) hS.2.2 d_t_hang_30
theorem d_t_find_0 : decode b_t_find 0 = .ok (.iconst 0, 1) := by decide +kernel
theorem d_t_find_1 : decode b_t_find 1 = .ok (.istore_n 3, 1) := by decide +kernel
theorem d_t_find_2 : decode b_t_find 2 = .ok (.iload_n 3, 1) := by decide +kernel
theorem d_t_find_3 : decode b_t_find 3 = .ok (.iconst (-1), 1) := by decide +kernel
theorem d_t_find_4 : decode b_t_find 4 = .ok (.if_icmp .eq 49, 3) := by decide +kernel
theorem d_t_find_7 : decode b_t_find 7 = .ok (.aload_n 0, 1) := by decide +kernel
theorem d_t_find_8 : decode b_t_find 8 = .ok (.getfield 13, 3) := by decide +kernel
theorem d_t_find_11 : decode b_t_find 11 = .ok (.iload_n 3, 1) := by decide +kernel
theorem d_t_find_12 : decode b_t_find 12 = .ok (.iaload, 1) := by decide +kernel
theorem d_t_find_13 : decode b_t_find 13 = .ok (.iload_n 2, 1) := by decide +kernel
theorem d_t_find_14 : decode b_t_find 14 = .ok (.if_icmp .ge 39, 3) := by decide +kernel
theorem d_t_find_17 : decode b_t_find 17 = .ok (.aload_n 0, 1) := by decide +kernel
theorem d_t_find_18 : decode b_t_find 18 = .ok (.getfield 9, 3) := by decide +kernel
theorem d_t_find_21 : decode b_t_find 21 = .ok (.iload_n 3, 1) := by decide +kernel
theorem d_t_find_22 : decode b_t_find 22 = .ok (.iaload, 1) := by decide +kernel
theorem d_t_find_23 : decode b_t_find 23 = .ok (.aload_n 0, 1) := by decide +kernel
theorem d_t_find_24 : decode b_t_find 24 = .ok (.getfield 13, 3) := by decide +kernel
theorem d_t_find_27 : decode b_t_find 27 = .ok (.iload_n 3, 1) := by decide +kernel
theorem d_t_find_28 : decode b_t_find 28 = .ok (.iaload, 1) := by decide +kernel
theorem d_t_find_29 : decode b_t_find 29 = .ok (.iload_n 1, 1) := by decide +kernel
theorem d_t_find_30 : decode b_t_find 30 = .ok (.iload_n 2, 1) := by decide +kernel
theorem d_t_find_31 : decode b_t_find 31 = .ok (.invokestatic 61, 3) := by decide +kernel
theorem d_t_find_34 : decode b_t_find 34 = .ok (.aload_n 0, 1) := by decide +kernel
theorem d_t_find_35 : decode b_t_find 35 = .ok (.getfield 13, 3) := by decide +kernel
theorem d_t_find_38 : decode b_t_find 38 = .ok (.iload_n 3, 1) := by decide +kernel
theorem d_t_find_39 : decode b_t_find 39 = .ok (.iaload, 1) := by decide +kernel
theorem d_t_find_40 : decode b_t_find 40 = .ok (.if_icmp .ne 13, 3) := by decide +kernel
theorem d_t_find_43 : decode b_t_find 43 = .ok (.aload_n 0, 1) := by decide +kernel
theorem d_t_find_44 : decode b_t_find 44 = .ok (.iload_n 3, 1) := by decide +kernel
theorem d_t_find_45 : decode b_t_find 45 = .ok (.iload_n 1, 1) := by decide +kernel
theorem d_t_find_46 : decode b_t_find 46 = .ok (.invokevirtual 65, 3) := by decide +kernel
theorem d_t_find_49 : decode b_t_find 49 = .ok (.istore_n 3, 1) := by decide +kernel
theorem d_t_find_50 : decode b_t_find 50 = .ok (.goto (-48), 3) := by decide +kernel
theorem d_t_find_53 : decode b_t_find 53 = .ok (.iload_n 3, 1) := by decide +kernel
theorem d_t_find_54 : decode b_t_find 54 = .ok (.iconst (-1), 1) := by decide +kernel
theorem d_t_find_55 : decode b_t_find 55 = .ok (.if_icmp .eq 27, 3) := by decide +kernel
theorem d_t_find_58 : decode b_t_find 58 = .ok (.aload_n 0, 1) := by decide +kernel
theorem d_t_find_59 : decode b_t_find 59 = .ok (.getfield 13, 3) := by decide +kernel
theorem d_t_find_62 : decode b_t_find 62 = .ok (.iload_n 3, 1) := by decide +kernel
theorem d_t_find_63 : decode b_t_find 63 = .ok (.iaload, 1) := by decide +kernel
theorem d_t_find_64 : decode b_t_find 64 = .ok (.iload_n 2, 1) := by decide +kernel
theorem d_t_find_65 : decode b_t_find 65 = .ok (.if_icmp .ne 17, 3) := by decide +kernel
theorem d_t_find_68 : decode b_t_find 68 = .ok (.aload_n 0, 1) := by decide +kernel
theorem d_t_find_69 : decode b_t_find 69 = .ok (.getfield 9, 3) := by decide +kernel
theorem d_t_find_72 : decode b_t_find 72 = .ok (.iload_n 3, 1) := by decide +kernel
theorem d_t_find_73 : decode b_t_find 73 = .ok (.iaload, 1) := by decide +kernel
theorem d_t_find_74 : decode b_t_find 74 = .ok (.iload_n 1, 1) := by decide +kernel
theorem d_t_find_75 : decode b_t_find 75 = .ok (.if_icmp .ne 7, 3) := by decide +kernel
theorem d_t_find_78 : decode b_t_find 78 = .ok (.iload_n 3, 1) := by decide +kernel
theorem d_t_find_79 : decode b_t_find 79 = .ok (.goto 4, 3) := by decide +kernel
theorem d_t_find_82 : decode b_t_find 82 = .ok (.iconst (-1), 1) := by decide +kernel
theorem d_t_find_83 : decode b_t_find 83 = .ok (.ireturn, 1) := by decide +kernel
set_option maxHeartbeats 4000000 in
set_option maxRecDepth 100000 in
theorem wl_t_find_2 {p : Program} {l : Launch} {e : Env} {s : State} {m : MethodId} {args : Array Value} {below : List Frame} {meth : Method} {c : Code} {D : va_G} {a : Nat → Nat} {cA : ClassId} {R : Room} {H : Heap} {locs : List Loc} {cells slots : Nat} {Q : State → Prop} {S : TS} {x1 x2 : Int32} {y : Int32} (E : CallFix p m c b_t_find 4 s args gT R_T) (hK : va_K D classes [(cA, .int)] s) (hP : va_P D classes (wT a cA S) H) (hfit : cells + 0 ≤ R.cells ∧ slots + 0 ≤ R.slots) (hR : 2 ≤ R.frames ∧ 80 ≤ R.locals) : ∀ (k : Nat) (x3 : Int32), L_t_find_2 S x1 x2 k x3 = some y → ∀ ls : Array Slot, lv_has ls 4 [(0, .ref (a 0)), (1, .int x1), (2, .int x2), (3, .int x3)] → (∀ ls : Array Slot, lv_has ls 4 [(0, .ref (a 0)), (1, .int x1), (2, .int x2), (3, .int y)] → W p l e R s m args below meth c H locs cells slots Q (F0 m 53 ls [])) → W p l e R s m args below meth c H locs cells slots Q (F0 m 2 ls []) := by
  have hx := E.1
  have hb := E.2.1
  intro k
  induction k with
  | zero =>
    intro x3 h
    cases h
  | succ k ih =>
    intro x3 h ls hl kx
    rw [L_t_find_2] at h
    refine lv_iload_n hx hb d_t_find_2 rfl (lv_at hl 3 rfl) ?_
    refine lv_iconst (v := (-1)) hx hb d_t_find_3 (by decide) ?_
    refine lv_icmp_eq (tgt := 53) hx hb d_t_find_4 (by decide) (fun c1 => ?_) (fun c1 => ?_)
    · rw [if_pos c1] at h
      cases h
      exact kx ls (lv_sub hl [0, 1, 2, 3] rfl)
    · rw [if_neg c1] at h
      refine lv_aload_n hx hb d_t_find_7 rfl (lv_at hl 0 rfl) ?_
      refine tg_L E hK hP d_t_find_8 ?_
      refine lv_iload_n hx hb d_t_find_11 rfl (lv_at hl 3 rfl) ?_
      obtain ⟨g2, h⟩ := gd_some h
      refine ta_L E hK hP g2 d_t_find_12 ?_
      refine lv_iload_n hx hb d_t_find_13 rfl (lv_at hl 2 rfl) ?_
      refine lv_icmp_ge (tgt := 53) hx hb d_t_find_14 (by decide) (fun c3 => ?_) (fun c3 => ?_)
      · rw [if_pos c3] at h
        cases h
        exact kx ls (lv_sub hl [0, 1, 2, 3] rfl)
      · rw [if_neg c3] at h
        refine lv_aload_n hx hb d_t_find_17 rfl (lv_at hl 0 rfl) ?_
        refine tg_B E hK hP d_t_find_18 ?_
        refine lv_iload_n hx hb d_t_find_21 rfl (lv_at hl 3 rfl) ?_
        refine ta_B E hK hP g2 d_t_find_22 ?_
        refine lv_aload_n hx hb d_t_find_23 rfl (lv_at hl 0 rfl) ?_
        refine tg_L E hK hP d_t_find_24 ?_
        refine lv_iload_n hx hb d_t_find_27 rfl (lv_at hl 3 rfl) ?_
        refine ta_L E hK hP g2 d_t_find_28 ?_
        refine lv_iload_n hx hb d_t_find_29 rfl (lv_at hl 1 rfl) ?_
        refine lv_iload_n hx hb d_t_find_30 rfl (lv_at hl 2 rfl) ?_
        obtain ⟨v5, e4, h⟩ := Option.bind_eq_some_iff.mp h
        refine S_call (As := [.int (sB S (cl x3)), .int (sL S (cl x3)), .int x1, .int x2]) (rest := []) (r := v5) E (c_t_common l (sB S (cl x3)) (sL S (cl x3)) x1 x2 v5 e4) k_t_common lk_t_61 ⟨by omega, by omega⟩ rfl hl.1 rfl (Nat.le_of_ble_eq_true rfl) d_t_find_31 hfit ?_
        refine lv_aload_n hx hb d_t_find_34 rfl (lv_at hl 0 rfl) ?_
        refine tg_L E hK hP d_t_find_35 ?_
        refine lv_iload_n hx hb d_t_find_38 rfl (lv_at hl 3 rfl) ?_
        refine ta_L E hK hP g2 d_t_find_39 ?_
        refine lv_icmp_ne (tgt := 53) hx hb d_t_find_40 (by decide) (fun c6 => ?_) (fun c6 => ?_)
        · rw [if_neg c6] at h
          cases h
          exact kx ls (lv_sub hl [0, 1, 2, 3] rfl)
        · rw [if_pos c6] at h
          refine lv_aload_n hx hb d_t_find_43 rfl (lv_at hl 0 rfl) ?_
          refine lv_iload_n hx hb d_t_find_44 rfl (lv_at hl 3 rfl) ?_
          refine lv_iload_n hx hb d_t_find_45 rfl (lv_at hl 1 rfl) ?_
          obtain ⟨v8, e7, h⟩ := Option.bind_eq_some_iff.mp h
          refine T_callR (As := [.int x3, .int x1]) (rest := []) (r := v8) E hK hP (c_t_child l D a cA S x3 x1 v8 e7) k_t_child lk_t_65 ⟨by omega, by omega⟩ rfl hl.1 rfl (Nat.le_of_ble_eq_true rfl) d_t_find_46 hfit ?_
          refine lv_istore_n (lv' := [(3, .int v8), (0, .ref (a 0)), (1, .int x1), (2, .int x2)]) hx hb d_t_find_49 rfl hl (by decide) rfl (fun ls hl => ?_)
          refine lv_goto (tgt := 2) hx hb d_t_find_50 (by decide) ?_
          exact ih v8 h ls (lv_sub hl [1, 2, 3, 0] rfl) kx
set_option maxHeartbeats 4000000 in
set_option maxRecDepth 100000 in
theorem c_t_find (l : Launch) (D : va_G) (a : Nat → Nat) (cA : ClassId) (S : TS) (x1 x2 : Int32) (r : Int32) (h : j_t_find S x1 x2 = some r) : Met l y_t_find (Cond.code y_t_find b_t_find 4 (some .int) :: gT) (rmL 2) (rPcT D a cA S [.ref (a 0), .int x1, .int x2]) (QcRead r) 0 0 (fun _ => False) := by
  refine T_metR (by decide) (Nat.le_of_ble_eq_true rfl) ?_
  intro p e s m below meth c ls E hr hlocks hP hK hl
  have E : CallFix p m c b_t_find 4 s _ gT R_T := E
  have hx := E.1
  have hb := E.2.1
  have hl : lv_has ls 4 [(0, .ref (a 0)), (1, .int x1), (2, .int x2)] := hl
  unfold j_t_find at h
  refine lv_iconst (v := 0) hx hb d_t_find_0 (by decide) ?_
  refine lv_istore_n (lv' := [(3, .int 0), (0, .ref (a 0)), (1, .int x1), (2, .int x2)]) hx hb d_t_find_1 rfl hl (by decide) rfl (fun ls hl => ?_)
  obtain ⟨y9, e10, h⟩ := Option.bind_eq_some_iff.mp h
  refine wl_t_find_2 E hK hP ⟨Nat.le_of_ble_eq_true rfl, Nat.le_of_ble_eq_true rfl⟩ ⟨Nat.le_of_ble_eq_true rfl, Nat.le_of_ble_eq_true rfl⟩ FU 0 e10 ls (lv_sub hl [1, 2, 3, 0] rfl) (fun ls hl => ?_)
  refine lv_iload_n hx hb d_t_find_53 rfl (lv_at hl 3 rfl) ?_
  refine lv_iconst (v := (-1)) hx hb d_t_find_54 (by decide) ?_
  refine lv_icmp_eq (tgt := 82) hx hb d_t_find_55 (by decide) (fun c11 => ?_) (fun c11 => ?_)
  · rw [if_pos c11] at h
    refine lv_iconst (v := (-1)) hx hb d_t_find_82 (by decide) ?_
    cases h
    exact W.iret (v := _) hx hb hr (fun t ht hW => ⟨rfl, ht⟩) (fun q hq => by cases hq) d_t_find_83
  · rw [if_neg c11] at h
    refine lv_aload_n hx hb d_t_find_58 rfl (lv_at hl 0 rfl) ?_
    refine tg_L E hK hP d_t_find_59 ?_
    refine lv_iload_n hx hb d_t_find_62 rfl (lv_at hl 3 rfl) ?_
    obtain ⟨g12, h⟩ := gd_some h
    refine ta_L E hK hP g12 d_t_find_63 ?_
    refine lv_iload_n hx hb d_t_find_64 rfl (lv_at hl 2 rfl) ?_
    refine lv_icmp_ne (tgt := 82) hx hb d_t_find_65 (by decide) (fun c13 => ?_) (fun c13 => ?_)
    · rw [if_neg c13] at h
      refine lv_iconst (v := (-1)) hx hb d_t_find_82 (by decide) ?_
      cases h
      exact W.iret (v := _) hx hb hr (fun t ht hW => ⟨rfl, ht⟩) (fun q hq => by cases hq) d_t_find_83
    · rw [if_pos c13] at h
      refine lv_aload_n hx hb d_t_find_68 rfl (lv_at hl 0 rfl) ?_
      refine tg_B E hK hP d_t_find_69 ?_
      refine lv_iload_n hx hb d_t_find_72 rfl (lv_at hl 3 rfl) ?_
      refine ta_B E hK hP g12 d_t_find_73 ?_
      refine lv_iload_n hx hb d_t_find_74 rfl (lv_at hl 1 rfl) ?_
      refine lv_icmp_ne (tgt := 82) hx hb d_t_find_75 (by decide) (fun c14 => ?_) (fun c14 => ?_)
      · rw [if_neg c14] at h
        refine lv_iconst (v := (-1)) hx hb d_t_find_82 (by decide) ?_
        cases h
        exact W.iret (v := _) hx hb hr (fun t ht hW => ⟨rfl, ht⟩) (fun q hq => by cases hq) d_t_find_83
      · rw [if_pos c14] at h
        refine lv_iload_n hx hb d_t_find_78 rfl (lv_at hl 3 rfl) ?_
        refine lv_goto (tgt := 83) hx hb d_t_find_79 (by decide) ?_
        cases h
        exact W.iret (v := _) hx hb hr (fun t ht hW => ⟨rfl, ht⟩) (fun q hq => by cases hq) d_t_find_83
theorem d_t_tell_0 : decode b_t_tell 0 = .ok (.iconst 0, 1) := by decide +kernel
theorem d_t_tell_1 : decode b_t_tell 1 = .ok (.istore 4, 2) := by decide +kernel
theorem d_t_tell_3 : decode b_t_tell 3 = .ok (.aload_n 0, 1) := by decide +kernel
theorem d_t_tell_4 : decode b_t_tell 4 = .ok (.getfield 13, 3) := by decide +kernel
theorem d_t_tell_7 : decode b_t_tell 7 = .ok (.iload 4, 2) := by decide +kernel
theorem d_t_tell_9 : decode b_t_tell 9 = .ok (.iaload, 1) := by decide +kernel
theorem d_t_tell_10 : decode b_t_tell 10 = .ok (.iload_n 2, 1) := by decide +kernel
theorem d_t_tell_11 : decode b_t_tell 11 = .ok (.if_icmp .ge 26, 3) := by decide +kernel
theorem d_t_tell_14 : decode b_t_tell 14 = .ok (.aload_n 0, 1) := by decide +kernel
theorem d_t_tell_15 : decode b_t_tell 15 = .ok (.getfield 25, 3) := by decide +kernel
theorem d_t_tell_18 : decode b_t_tell 18 = .ok (.iload 4, 2) := by decide +kernel
theorem d_t_tell_20 : decode b_t_tell 20 = .ok (.dup2, 1) := by decide +kernel
theorem d_t_tell_21 : decode b_t_tell 21 = .ok (.iaload, 1) := by decide +kernel
theorem d_t_tell_22 : decode b_t_tell 22 = .ok (.iload_n 3, 1) := by decide +kernel
theorem d_t_tell_23 : decode b_t_tell 23 = .ok (.iadd, 1) := by decide +kernel
theorem d_t_tell_24 : decode b_t_tell 24 = .ok (.iastore, 1) := by decide +kernel
theorem d_t_tell_25 : decode b_t_tell 25 = .ok (.aload_n 0, 1) := by decide +kernel
theorem d_t_tell_26 : decode b_t_tell 26 = .ok (.iload 4, 2) := by decide +kernel
theorem d_t_tell_28 : decode b_t_tell 28 = .ok (.iload_n 1, 1) := by decide +kernel
theorem d_t_tell_29 : decode b_t_tell 29 = .ok (.invokevirtual 65, 3) := by decide +kernel
theorem d_t_tell_32 : decode b_t_tell 32 = .ok (.istore 4, 2) := by decide +kernel
theorem d_t_tell_34 : decode b_t_tell 34 = .ok (.goto (-31), 3) := by decide +kernel
theorem d_t_tell_37 : decode b_t_tell 37 = .ok (.aload_n 0, 1) := by decide +kernel
theorem d_t_tell_38 : decode b_t_tell 38 = .ok (.getfield 25, 3) := by decide +kernel
theorem d_t_tell_41 : decode b_t_tell 41 = .ok (.iload 4, 2) := by decide +kernel
theorem d_t_tell_43 : decode b_t_tell 43 = .ok (.dup2, 1) := by decide +kernel
theorem d_t_tell_44 : decode b_t_tell 44 = .ok (.iaload, 1) := by decide +kernel
theorem d_t_tell_45 : decode b_t_tell 45 = .ok (.iload_n 3, 1) := by decide +kernel
theorem d_t_tell_46 : decode b_t_tell 46 = .ok (.iadd, 1) := by decide +kernel
theorem d_t_tell_47 : decode b_t_tell 47 = .ok (.iastore, 1) := by decide +kernel
theorem d_t_tell_48 : decode b_t_tell 48 = .ok (.return_, 1) := by decide +kernel
set_option maxHeartbeats 4000000 in
set_option maxRecDepth 100000 in
theorem wl_t_tell_3 {p : Program} {l : Launch} {e : Env} {s : State} {m : MethodId} {args : Array Value} {below : List Frame} {meth : Method} {c : Code} {D : va_G} {a : Nat → Nat} {cA : ClassId} {S' : TS} {x1 x2 x3 : Int32} (E : CallFix p m c b_t_tell 5 s args gT R_T) (hr : meth.sig.returnType = none) (hlocks : meth.locks = false) (hK : va_K D classes [(cA, .int)] s) (hD : ∀ S : TS, va_D (aT a) (wT a cA S)) : ∀ (k : Nat) (S : TS) (x4 : Int32), L_t_tell_3 x1 x2 x3 k S x4 = some S' → ∀ (H : Heap) (locs : List Loc), va_P D classes (wT a cA S) H → va_S (aT a) s.heap H locs → ∀ ls : Array Slot, lv_has ls 5 [(0, .ref (a 0)), (1, .int x1), (2, .int x2), (3, .int x3), (4, .int x4)] → W p l e (rmL 2) s m args below meth c H locs 0 0 (MQ below (mQcT D a cA none S') args s 0 0 (aT a)) (F0 m 3 ls []) := by
  have hx := E.1
  have hb := E.2.1
  intro k
  induction k with
  | zero =>
    intro S x4 h
    cases h
  | succ k ih =>
    intro S x4 h H locs hP hS ls hl
    rw [L_t_tell_3] at h
    refine lv_aload_n hx hb d_t_tell_3 rfl (lv_at hl 0 rfl) ?_
    refine tg_L E hK hP d_t_tell_4 ?_
    refine lv_iload hx hb d_t_tell_7 (lv_at hl 4 rfl) ?_
    obtain ⟨g1, h⟩ := gd_some h
    refine ta_L E hK hP g1 d_t_tell_9 ?_
    refine lv_iload_n hx hb d_t_tell_10 rfl (lv_at hl 2 rfl) ?_
    refine lv_icmp_ge (tgt := 37) hx hb d_t_tell_11 (by decide) (fun c2 => ?_) (fun c2 => ?_)
    · rw [if_pos c2] at h
      refine lv_aload_n hx hb d_t_tell_37 rfl (lv_at hl 0 rfl) ?_
      refine tg_W E hK hP d_t_tell_38 ?_
      refine lv_iload hx hb d_t_tell_41 (lv_at hl 4 rfl) ?_
      refine lv_dup2_11 hx hb d_t_tell_43 rfl rfl ?_
      refine ta_W E hK hP g1 d_t_tell_44 ?_
      refine lv_iload_n hx hb d_t_tell_45 rfl (lv_at hl 3 rfl) ?_
      refine lv_iadd hx hb d_t_tell_46 ?_
      refine ts_W E hK hD hP hS g1 d_t_tell_47 (fun H locs hP hS => ?_)
      cases h
      exact W.vret hx hb hr (fun t ht hW => ⟨rfl, by rw [ht]; exact hP, hS.F ht⟩) hS.2.2 d_t_tell_48
    · rw [if_neg c2] at h
      refine lv_aload_n hx hb d_t_tell_14 rfl (lv_at hl 0 rfl) ?_
      refine tg_W E hK hP d_t_tell_15 ?_
      refine lv_iload hx hb d_t_tell_18 (lv_at hl 4 rfl) ?_
      refine lv_dup2_11 hx hb d_t_tell_20 rfl rfl ?_
      refine ta_W E hK hP g1 d_t_tell_21 ?_
      refine lv_iload_n hx hb d_t_tell_22 rfl (lv_at hl 3 rfl) ?_
      refine lv_iadd hx hb d_t_tell_23 ?_
      refine ts_W E hK hD hP hS g1 d_t_tell_24 (fun H locs hP hS => ?_)
      refine lv_aload_n hx hb d_t_tell_25 rfl (lv_at hl 0 rfl) ?_
      refine lv_iload hx hb d_t_tell_26 (lv_at hl 4 rfl) ?_
      refine lv_iload_n hx hb d_t_tell_28 rfl (lv_at hl 1 rfl) ?_
      obtain ⟨v4, e3, h⟩ := Option.bind_eq_some_iff.mp h
      refine T_callR (As := [.int x4, .int x1]) (rest := []) (r := v4) E hK hP (c_t_child l D a cA (uW S (cl x4) ((sW S (cl x4)) + x3)) x4 x1 v4 e3) k_t_child lk_t_65 ⟨Nat.le_of_ble_eq_true rfl, Nat.le_of_ble_eq_true rfl⟩ rfl hl.1 rfl (Nat.le_of_ble_eq_true rfl) d_t_tell_29 ⟨Nat.le_of_ble_eq_true rfl, Nat.le_of_ble_eq_true rfl⟩ ?_
      refine lv_istore (lv' := [(4, .int v4), (0, .ref (a 0)), (1, .int x1), (2, .int x2), (3, .int x3)]) hx hb d_t_tell_32 hl (by decide) rfl (fun ls hl => ?_)
      refine lv_goto (tgt := 3) hx hb d_t_tell_34 (by decide) ?_
      exact ih (uW S (cl x4) ((sW S (cl x4)) + x3)) v4 h _ _ hP hS ls (lv_sub hl [1, 2, 3, 4, 0] rfl)
set_option maxHeartbeats 4000000 in
set_option maxRecDepth 100000 in
theorem c_t_tell (l : Launch) (D : va_G) (a : Nat → Nat) (cA : ClassId) (S : TS) (x1 x2 x3 : Int32) (S' : TS) (h : j_t_tell S x1 x2 x3 = some S') : Met l y_t_tell (Cond.code y_t_tell b_t_tell 5 (none) :: gT) (rmL 2) (mPcT D a cA S [.ref (a 0), .int x1, .int x2, .int x3]) (mQcT D a cA none S') 0 0 (aT a) := by
  refine T_metM (by decide) (Nat.le_of_ble_eq_true rfl) ?_
  intro p e s m below meth c ls E hr hlocks hP hK hD hS hl
  have E : CallFix p m c b_t_tell 5 s _ gT R_T := E
  have hx := E.1
  have hb := E.2.1
  have hl : lv_has ls 5 [(0, .ref (a 0)), (1, .int x1), (2, .int x2), (3, .int x3)] := hl
  unfold j_t_tell at h
  refine lv_iconst (v := 0) hx hb d_t_tell_0 (by decide) ?_
  refine lv_istore (lv' := [(4, .int 0), (0, .ref (a 0)), (1, .int x1), (2, .int x2), (3, .int x3)]) hx hb d_t_tell_1 hl (by decide) rfl (fun ls hl => ?_)
  exact wl_t_tell_3 E hr hlocks hK hD FU S 0 h _ _ hP hS ls (lv_sub hl [1, 2, 3, 4, 0] rfl)
end
section
theorem d_t_init_0 : decode b_t_init 0 = .ok (.iconst 0, 1) := by decide +kernel
theorem d_t_init_1 : decode b_t_init 1 = .ok (.istore_n 1, 1) := by decide +kernel
theorem d_t_init_2 : decode b_t_init 2 = .ok (.iload_n 1, 1) := by decide +kernel
theorem d_t_init_3 : decode b_t_init 3 = .ok (.sipush 1001, 3) := by decide +kernel
theorem d_t_init_6 : decode b_t_init 6 = .ok (.if_icmp .ge 31, 3) := by decide +kernel
theorem d_t_init_9 : decode b_t_init 9 = .ok (.aload_n 0, 1) := by decide +kernel
theorem d_t_init_10 : decode b_t_init 10 = .ok (.getfield 19, 3) := by decide +kernel
theorem d_t_init_13 : decode b_t_init 13 = .ok (.iload_n 1, 1) := by decide +kernel
theorem d_t_init_14 : decode b_t_init 14 = .ok (.iload_n 1, 1) := by decide +kernel
theorem d_t_init_15 : decode b_t_init 15 = .ok (.iconst 1, 1) := by decide +kernel
theorem d_t_init_16 : decode b_t_init 16 = .ok (.iadd, 1) := by decide +kernel
theorem d_t_init_17 : decode b_t_init 17 = .ok (.sipush 1001, 3) := by decide +kernel
theorem d_t_init_20 : decode b_t_init 20 = .ok (.if_icmp .ge 9, 3) := by decide +kernel
theorem d_t_init_23 : decode b_t_init 23 = .ok (.iload_n 1, 1) := by decide +kernel
theorem d_t_init_24 : decode b_t_init 24 = .ok (.iconst 1, 1) := by decide +kernel
theorem d_t_init_25 : decode b_t_init 25 = .ok (.iadd, 1) := by decide +kernel
theorem d_t_init_26 : decode b_t_init 26 = .ok (.goto 4, 3) := by decide +kernel
theorem d_t_init_29 : decode b_t_init 29 = .ok (.iconst (-1), 1) := by decide +kernel
theorem d_t_init_30 : decode b_t_init 30 = .ok (.iastore, 1) := by decide +kernel
theorem d_t_init_31 : decode b_t_init 31 = .ok (.iinc 1 1, 3) := by decide +kernel
theorem d_t_init_34 : decode b_t_init 34 = .ok (.goto (-32), 3) := by decide +kernel
theorem d_t_init_37 : decode b_t_init 37 = .ok (.aload_n 0, 1) := by decide +kernel
theorem d_t_init_38 : decode b_t_init 38 = .ok (.iconst 0, 1) := by decide +kernel
theorem d_t_init_39 : decode b_t_init 39 = .ok (.putfield 31, 3) := by decide +kernel
theorem d_t_init_42 : decode b_t_init 42 = .ok (.aload_n 0, 1) := by decide +kernel
theorem d_t_init_43 : decode b_t_init 43 = .ok (.iconst 0, 1) := by decide +kernel
theorem d_t_init_44 : decode b_t_init 44 = .ok (.putfield 35, 3) := by decide +kernel
theorem d_t_init_47 : decode b_t_init 47 = .ok (.aload_n 0, 1) := by decide +kernel
theorem d_t_init_48 : decode b_t_init 48 = .ok (.iconst 0, 1) := by decide +kernel
theorem d_t_init_49 : decode b_t_init 49 = .ok (.iconst 0, 1) := by decide +kernel
theorem d_t_init_50 : decode b_t_init 50 = .ok (.iconst (-1), 1) := by decide +kernel
theorem d_t_init_51 : decode b_t_init 51 = .ok (.invokevirtual 38, 3) := by decide +kernel
theorem d_t_init_54 : decode b_t_init 54 = .ok (.pop, 1) := by decide +kernel
theorem d_t_init_55 : decode b_t_init 55 = .ok (.return_, 1) := by decide +kernel
set_option maxHeartbeats 4000000 in
set_option maxRecDepth 100000 in
theorem wl_t_init_2 {p : Program} {l : Launch} {e : Env} {s : State} {m : MethodId} {args : Array Value} {below : List Frame} {meth : Method} {c : Code} {D : va_G} {a : Nat → Nat} {cA : ClassId} {S' : TS} (E : CallFix p m c b_t_init 2 s args gT R_T) (hr : meth.sig.returnType = none) (hlocks : meth.locks = false) (hK : va_K D classes [(cA, .int)] s) (hD : ∀ S : TS, va_D (aT a) (wT a cA S)) : ∀ (k : Nat) (S : TS) (x1 : Int32), L_t_init_2  k S x1 = some S' → ∀ (H : Heap) (locs : List Loc), va_P D classes (wT a cA S) H → va_S (aT a) s.heap H locs → ∀ ls : Array Slot, lv_has ls 2 [(0, .ref (a 0)), (1, .int x1)] → W p l e (rmL 1) s m args below meth c H locs 0 0 (MQ below (mQcT D a cA none S') args s 0 0 (aT a)) (F0 m 2 ls []) := by
  have hx := E.1
  have hb := E.2.1
  intro k
  induction k with
  | zero =>
    intro S x1 h
    cases h
  | succ k ih =>
    intro S x1 h H locs hP hS ls hl
    rw [L_t_init_2] at h
    refine lv_iload_n hx hb d_t_init_2 rfl (lv_at hl 1 rfl) ?_
    refine lv_sipush (v := 1001) hx hb d_t_init_3 (by decide) ?_
    refine lv_icmp_ge (tgt := 37) hx hb d_t_init_6 (by decide) (fun c1 => ?_) (fun c1 => ?_)
    · rw [if_pos c1] at h
      refine lv_aload_n hx hb d_t_init_37 rfl (lv_at hl 0 rfl) ?_
      refine lv_iconst (v := 0) hx hb d_t_init_38 (by decide) ?_
      refine tp_F E hK hD hP hS d_t_init_39 (fun H locs hP hS => ?_)
      refine lv_aload_n hx hb d_t_init_42 rfl (lv_at hl 0 rfl) ?_
      refine lv_iconst (v := 0) hx hb d_t_init_43 (by decide) ?_
      refine tp_U E hK hD hP hS d_t_init_44 (fun H locs hP hS => ?_)
      refine lv_aload_n hx hb d_t_init_47 rfl (lv_at hl 0 rfl) ?_
      refine lv_iconst (v := 0) hx hb d_t_init_48 (by decide) ?_
      refine lv_iconst (v := 0) hx hb d_t_init_49 (by decide) ?_
      refine lv_iconst (v := (-1)) hx hb d_t_init_50 (by decide) ?_
      obtain ⟨⟨v4, S3⟩, e2, h⟩ := Option.bind_eq_some_iff.mp h
      try dsimp only at h
      refine T_callM (As := [.int 0, .int 0, .int ((-1))]) (rest := []) (v := some (.int v4)) (S' := S3) E hK hD hP hS (c_t_make l D a cA (uU (uF S 0) 0) 0 0 ((-1)) v4 S3 e2) k_t_make lk_t_38 ⟨Nat.le_of_ble_eq_true rfl, Nat.le_of_ble_eq_true rfl⟩ rfl hl.1 rfl (Nat.le_of_ble_eq_true rfl) d_t_init_51 ⟨Nat.le_of_ble_eq_true rfl, Nat.le_of_ble_eq_true rfl⟩ (fun H locs hP hS _ _ => ?_)
      refine W.eq (g2 := F0 m 54 ls [.int v4]) rfl ?_
      refine lv_pop hx hb d_t_init_54 rfl ?_
      cases h
      exact W.vret hx hb hr (fun t ht hW => ⟨rfl, by rw [ht]; exact hP, hS.F ht⟩) hS.2.2 d_t_init_55
    · rw [if_neg c1] at h
      refine lv_aload_n hx hb d_t_init_9 rfl (lv_at hl 0 rfl) ?_
      refine tg_Z E hK hP d_t_init_10 ?_
      refine lv_iload_n hx hb d_t_init_13 rfl (lv_at hl 1 rfl) ?_
      refine lv_iload_n hx hb d_t_init_14 rfl (lv_at hl 1 rfl) ?_
      refine lv_iconst (v := 1) hx hb d_t_init_15 (by decide) ?_
      refine lv_iadd hx hb d_t_init_16 ?_
      refine lv_sipush (v := 1001) hx hb d_t_init_17 (by decide) ?_
      refine lv_icmp_ge (tgt := 29) hx hb d_t_init_20 (by decide) (fun c6 => ?_) (fun c6 => ?_)
      · rw [if_pos c6] at h
        refine lv_iconst (v := (-1)) hx hb d_t_init_29 (by decide) ?_
        obtain ⟨g7, h⟩ := gd_some h
        refine ts_Z E hK hD hP hS g7 d_t_init_30 (fun H locs hP hS => ?_)
        refine lv_iinc (v := x1 + 1) (lv' := [(1, .int (x1 + 1)), (0, .ref (a 0))]) hx hb d_t_init_31 hl (k := 1) rfl rfl (by decide) rfl (fun ls hl => ?_)
        refine lv_goto (tgt := 2) hx hb d_t_init_34 (by decide) ?_
        exact ih (uZ S (cl x1) ((-1))) (x1 + 1) h _ _ hP hS ls (lv_sub hl [1, 0] rfl)
      · rw [if_neg c6] at h
        refine lv_iload_n hx hb d_t_init_23 rfl (lv_at hl 1 rfl) ?_
        refine lv_iconst (v := 1) hx hb d_t_init_24 (by decide) ?_
        refine lv_iadd hx hb d_t_init_25 ?_
        refine lv_goto (tgt := 30) hx hb d_t_init_26 (by decide) ?_
        obtain ⟨g8, h⟩ := gd_some h
        refine ts_Z E hK hD hP hS g8 d_t_init_30 (fun H locs hP hS => ?_)
        refine lv_iinc (v := x1 + 1) (lv' := [(1, .int (x1 + 1)), (0, .ref (a 0))]) hx hb d_t_init_31 hl (k := 1) rfl rfl (by decide) rfl (fun ls hl => ?_)
        refine lv_goto (tgt := 2) hx hb d_t_init_34 (by decide) ?_
        exact ih (uZ S (cl x1) (x1 + 1)) (x1 + 1) h _ _ hP hS ls (lv_sub hl [1, 0] rfl)
set_option maxHeartbeats 4000000 in
set_option maxRecDepth 100000 in
theorem c_t_init (l : Launch) (D : va_G) (a : Nat → Nat) (cA : ClassId) (S : TS) (S' : TS) (h : j_t_init S = some S') : Met l y_t_init (Cond.code y_t_init b_t_init 2 (none) :: gT) (rmL 1) (mPcT D a cA S [.ref (a 0)]) (mQcT D a cA none S') 0 0 (aT a) := by
  refine T_metM (by decide) (Nat.le_of_ble_eq_true rfl) ?_
  intro p e s m below meth c ls E hr hlocks hP hK hD hS hl
  have E : CallFix p m c b_t_init 2 s _ gT R_T := E
  have hx := E.1
  have hb := E.2.1
  have hl : lv_has ls 2 [(0, .ref (a 0))] := hl
  unfold j_t_init at h
  refine lv_iconst (v := 0) hx hb d_t_init_0 (by decide) ?_
  refine lv_istore_n (lv' := [(1, .int 0), (0, .ref (a 0))]) hx hb d_t_init_1 rfl hl (by decide) rfl (fun ls hl => ?_)
  exact wl_t_init_2 E hr hlocks hK hD FU S 0 h _ _ hP hS ls (lv_sub hl [1, 0] rfl)
theorem d_t_enter_0 : decode b_t_enter 0 = .ok (.iconst 0, 1) := by decide +kernel
theorem d_t_enter_1 : decode b_t_enter 1 = .ok (.istore 4, 2) := by decide +kernel
theorem d_t_enter_3 : decode b_t_enter 3 = .ok (.aload_n 0, 1) := by decide +kernel
theorem d_t_enter_4 : decode b_t_enter 4 = .ok (.iconst 0, 1) := by decide +kernel
theorem d_t_enter_5 : decode b_t_enter 5 = .ok (.iload_n 1, 1) := by decide +kernel
theorem d_t_enter_6 : decode b_t_enter 6 = .ok (.invokevirtual 65, 3) := by decide +kernel
theorem d_t_enter_9 : decode b_t_enter 9 = .ok (.istore 5, 2) := by decide +kernel
theorem d_t_enter_11 : decode b_t_enter 11 = .ok (.iload 5, 2) := by decide +kernel
theorem d_t_enter_13 : decode b_t_enter 13 = .ok (.iconst (-1), 1) := by decide +kernel
theorem d_t_enter_14 : decode b_t_enter 14 = .ok (.if_icmp .eq 59, 3) := by decide +kernel
theorem d_t_enter_17 : decode b_t_enter 17 = .ok (.aload_n 0, 1) := by decide +kernel
theorem d_t_enter_18 : decode b_t_enter 18 = .ok (.getfield 13, 3) := by decide +kernel
theorem d_t_enter_21 : decode b_t_enter 21 = .ok (.iload 5, 2) := by decide +kernel
theorem d_t_enter_23 : decode b_t_enter 23 = .ok (.iaload, 1) := by decide +kernel
theorem d_t_enter_24 : decode b_t_enter 24 = .ok (.iload_n 2, 1) := by decide +kernel
theorem d_t_enter_25 : decode b_t_enter 25 = .ok (.if_icmp .ge 48, 3) := by decide +kernel
theorem d_t_enter_28 : decode b_t_enter 28 = .ok (.aload_n 0, 1) := by decide +kernel
theorem d_t_enter_29 : decode b_t_enter 29 = .ok (.getfield 9, 3) := by decide +kernel
theorem d_t_enter_32 : decode b_t_enter 32 = .ok (.iload 5, 2) := by decide +kernel
theorem d_t_enter_34 : decode b_t_enter 34 = .ok (.iaload, 1) := by decide +kernel
theorem d_t_enter_35 : decode b_t_enter 35 = .ok (.aload_n 0, 1) := by decide +kernel
theorem d_t_enter_36 : decode b_t_enter 36 = .ok (.getfield 13, 3) := by decide +kernel
theorem d_t_enter_39 : decode b_t_enter 39 = .ok (.iload 5, 2) := by decide +kernel
theorem d_t_enter_41 : decode b_t_enter 41 = .ok (.iaload, 1) := by decide +kernel
theorem d_t_enter_42 : decode b_t_enter 42 = .ok (.iload_n 1, 1) := by decide +kernel
theorem d_t_enter_43 : decode b_t_enter 43 = .ok (.iload_n 2, 1) := by decide +kernel
theorem d_t_enter_44 : decode b_t_enter 44 = .ok (.invokestatic 61, 3) := by decide +kernel
theorem d_t_enter_47 : decode b_t_enter 47 = .ok (.aload_n 0, 1) := by decide +kernel
theorem d_t_enter_48 : decode b_t_enter 48 = .ok (.getfield 13, 3) := by decide +kernel
theorem d_t_enter_51 : decode b_t_enter 51 = .ok (.iload 5, 2) := by decide +kernel
theorem d_t_enter_53 : decode b_t_enter 53 = .ok (.iaload, 1) := by decide +kernel
theorem d_t_enter_54 : decode b_t_enter 54 = .ok (.if_icmp .ne 19, 3) := by decide +kernel
theorem d_t_enter_57 : decode b_t_enter 57 = .ok (.iload 5, 2) := by decide +kernel
theorem d_t_enter_59 : decode b_t_enter 59 = .ok (.istore 4, 2) := by decide +kernel
theorem d_t_enter_61 : decode b_t_enter 61 = .ok (.aload_n 0, 1) := by decide +kernel
theorem d_t_enter_62 : decode b_t_enter 62 = .ok (.iload 5, 2) := by decide +kernel
theorem d_t_enter_64 : decode b_t_enter 64 = .ok (.iload_n 1, 1) := by decide +kernel
theorem d_t_enter_65 : decode b_t_enter 65 = .ok (.invokevirtual 65, 3) := by decide +kernel
theorem d_t_enter_68 : decode b_t_enter 68 = .ok (.istore 5, 2) := by decide +kernel
theorem d_t_enter_70 : decode b_t_enter 70 = .ok (.goto (-59), 3) := by decide +kernel
theorem d_t_enter_73 : decode b_t_enter 73 = .ok (.aload_n 0, 1) := by decide +kernel
theorem d_t_enter_74 : decode b_t_enter 74 = .ok (.iload_n 1, 1) := by decide +kernel
theorem d_t_enter_75 : decode b_t_enter 75 = .ok (.iload_n 2, 1) := by decide +kernel
theorem d_t_enter_76 : decode b_t_enter 76 = .ok (.iload_n 3, 1) := by decide +kernel
theorem d_t_enter_77 : decode b_t_enter 77 = .ok (.invokevirtual 38, 3) := by decide +kernel
theorem d_t_enter_80 : decode b_t_enter 80 = .ok (.istore 6, 2) := by decide +kernel
theorem d_t_enter_82 : decode b_t_enter 82 = .ok (.iload 5, 2) := by decide +kernel
theorem d_t_enter_84 : decode b_t_enter 84 = .ok (.iconst (-1), 1) := by decide +kernel
theorem d_t_enter_85 : decode b_t_enter 85 = .ok (.if_icmp .ne 13, 3) := by decide +kernel
theorem d_t_enter_88 : decode b_t_enter 88 = .ok (.aload_n 0, 1) := by decide +kernel
theorem d_t_enter_89 : decode b_t_enter 89 = .ok (.iload 4, 2) := by decide +kernel
theorem d_t_enter_91 : decode b_t_enter 91 = .ok (.iload 6, 2) := by decide +kernel
theorem d_t_enter_93 : decode b_t_enter 93 = .ok (.iload_n 1, 1) := by decide +kernel
theorem d_t_enter_94 : decode b_t_enter 94 = .ok (.invokevirtual 81, 3) := by decide +kernel
theorem d_t_enter_97 : decode b_t_enter 97 = .ok (.return_, 1) := by decide +kernel
theorem d_t_enter_98 : decode b_t_enter 98 = .ok (.aload_n 0, 1) := by decide +kernel
theorem d_t_enter_99 : decode b_t_enter 99 = .ok (.getfield 9, 3) := by decide +kernel
theorem d_t_enter_102 : decode b_t_enter 102 = .ok (.iload 5, 2) := by decide +kernel
theorem d_t_enter_104 : decode b_t_enter 104 = .ok (.iaload, 1) := by decide +kernel
theorem d_t_enter_105 : decode b_t_enter 105 = .ok (.aload_n 0, 1) := by decide +kernel
theorem d_t_enter_106 : decode b_t_enter 106 = .ok (.getfield 13, 3) := by decide +kernel
theorem d_t_enter_109 : decode b_t_enter 109 = .ok (.iload 5, 2) := by decide +kernel
theorem d_t_enter_111 : decode b_t_enter 111 = .ok (.iaload, 1) := by decide +kernel
theorem d_t_enter_112 : decode b_t_enter 112 = .ok (.iload_n 1, 1) := by decide +kernel
theorem d_t_enter_113 : decode b_t_enter 113 = .ok (.iload_n 2, 1) := by decide +kernel
theorem d_t_enter_114 : decode b_t_enter 114 = .ok (.invokestatic 61, 3) := by decide +kernel
theorem d_t_enter_117 : decode b_t_enter 117 = .ok (.istore 7, 2) := by decide +kernel
theorem d_t_enter_119 : decode b_t_enter 119 = .ok (.iload 7, 2) := by decide +kernel
theorem d_t_enter_121 : decode b_t_enter 121 = .ok (.iload_n 2, 1) := by decide +kernel
theorem d_t_enter_122 : decode b_t_enter 122 = .ok (.if_icmp .ne 42, 3) := by decide +kernel
theorem d_t_enter_125 : decode b_t_enter 125 = .ok (.aload_n 0, 1) := by decide +kernel
theorem d_t_enter_126 : decode b_t_enter 126 = .ok (.iload 6, 2) := by decide +kernel
theorem d_t_enter_128 : decode b_t_enter 128 = .ok (.iload 5, 2) := by decide +kernel
theorem d_t_enter_130 : decode b_t_enter 130 = .ok (.aload_n 0, 1) := by decide +kernel
theorem d_t_enter_131 : decode b_t_enter 131 = .ok (.getfield 9, 3) := by decide +kernel
theorem d_t_enter_134 : decode b_t_enter 134 = .ok (.iload 5, 2) := by decide +kernel
theorem d_t_enter_136 : decode b_t_enter 136 = .ok (.iaload, 1) := by decide +kernel
theorem d_t_enter_137 : decode b_t_enter 137 = .ok (.invokevirtual 81, 3) := by decide +kernel
theorem d_t_enter_140 : decode b_t_enter 140 = .ok (.aload_n 0, 1) := by decide +kernel
theorem d_t_enter_141 : decode b_t_enter 141 = .ok (.getfield 25, 3) := by decide +kernel
theorem d_t_enter_144 : decode b_t_enter 144 = .ok (.iload 6, 2) := by decide +kernel
theorem d_t_enter_146 : decode b_t_enter 146 = .ok (.aload_n 0, 1) := by decide +kernel
theorem d_t_enter_147 : decode b_t_enter 147 = .ok (.getfield 25, 3) := by decide +kernel
theorem d_t_enter_150 : decode b_t_enter 150 = .ok (.iload 5, 2) := by decide +kernel
theorem d_t_enter_152 : decode b_t_enter 152 = .ok (.iaload, 1) := by decide +kernel
theorem d_t_enter_153 : decode b_t_enter 153 = .ok (.iastore, 1) := by decide +kernel
theorem d_t_enter_154 : decode b_t_enter 154 = .ok (.aload_n 0, 1) := by decide +kernel
theorem d_t_enter_155 : decode b_t_enter 155 = .ok (.iload 4, 2) := by decide +kernel
theorem d_t_enter_157 : decode b_t_enter 157 = .ok (.iload 6, 2) := by decide +kernel
theorem d_t_enter_159 : decode b_t_enter 159 = .ok (.iload_n 1, 1) := by decide +kernel
theorem d_t_enter_160 : decode b_t_enter 160 = .ok (.invokevirtual 81, 3) := by decide +kernel
theorem d_t_enter_163 : decode b_t_enter 163 = .ok (.return_, 1) := by decide +kernel
theorem d_t_enter_164 : decode b_t_enter 164 = .ok (.aload_n 0, 1) := by decide +kernel
theorem d_t_enter_165 : decode b_t_enter 165 = .ok (.iload_n 1, 1) := by decide +kernel
theorem d_t_enter_166 : decode b_t_enter 166 = .ok (.iload 7, 2) := by decide +kernel
theorem d_t_enter_168 : decode b_t_enter 168 = .ok (.invokestatic 42, 3) := by decide +kernel
theorem d_t_enter_171 : decode b_t_enter 171 = .ok (.iand, 1) := by decide +kernel
theorem d_t_enter_172 : decode b_t_enter 172 = .ok (.iload 7, 2) := by decide +kernel
theorem d_t_enter_174 : decode b_t_enter 174 = .ok (.iconst (-1), 1) := by decide +kernel
theorem d_t_enter_175 : decode b_t_enter 175 = .ok (.invokevirtual 38, 3) := by decide +kernel
theorem d_t_enter_178 : decode b_t_enter 178 = .ok (.istore 8, 2) := by decide +kernel
theorem d_t_enter_180 : decode b_t_enter 180 = .ok (.aload_n 0, 1) := by decide +kernel
theorem d_t_enter_181 : decode b_t_enter 181 = .ok (.iload 8, 2) := by decide +kernel
theorem d_t_enter_183 : decode b_t_enter 183 = .ok (.iload 5, 2) := by decide +kernel
theorem d_t_enter_185 : decode b_t_enter 185 = .ok (.aload_n 0, 1) := by decide +kernel
theorem d_t_enter_186 : decode b_t_enter 186 = .ok (.getfield 9, 3) := by decide +kernel
theorem d_t_enter_189 : decode b_t_enter 189 = .ok (.iload 5, 2) := by decide +kernel
theorem d_t_enter_191 : decode b_t_enter 191 = .ok (.iaload, 1) := by decide +kernel
theorem d_t_enter_192 : decode b_t_enter 192 = .ok (.invokevirtual 81, 3) := by decide +kernel
theorem d_t_enter_195 : decode b_t_enter 195 = .ok (.aload_n 0, 1) := by decide +kernel
theorem d_t_enter_196 : decode b_t_enter 196 = .ok (.iload 8, 2) := by decide +kernel
theorem d_t_enter_198 : decode b_t_enter 198 = .ok (.iload 6, 2) := by decide +kernel
theorem d_t_enter_200 : decode b_t_enter 200 = .ok (.iload_n 1, 1) := by decide +kernel
theorem d_t_enter_201 : decode b_t_enter 201 = .ok (.invokevirtual 81, 3) := by decide +kernel
theorem d_t_enter_204 : decode b_t_enter 204 = .ok (.aload_n 0, 1) := by decide +kernel
theorem d_t_enter_205 : decode b_t_enter 205 = .ok (.getfield 25, 3) := by decide +kernel
theorem d_t_enter_208 : decode b_t_enter 208 = .ok (.iload 8, 2) := by decide +kernel
theorem d_t_enter_210 : decode b_t_enter 210 = .ok (.aload_n 0, 1) := by decide +kernel
theorem d_t_enter_211 : decode b_t_enter 211 = .ok (.getfield 25, 3) := by decide +kernel
theorem d_t_enter_214 : decode b_t_enter 214 = .ok (.iload 5, 2) := by decide +kernel
theorem d_t_enter_216 : decode b_t_enter 216 = .ok (.iaload, 1) := by decide +kernel
theorem d_t_enter_217 : decode b_t_enter 217 = .ok (.iastore, 1) := by decide +kernel
theorem d_t_enter_218 : decode b_t_enter 218 = .ok (.aload_n 0, 1) := by decide +kernel
theorem d_t_enter_219 : decode b_t_enter 219 = .ok (.iload 4, 2) := by decide +kernel
theorem d_t_enter_221 : decode b_t_enter 221 = .ok (.iload 8, 2) := by decide +kernel
theorem d_t_enter_223 : decode b_t_enter 223 = .ok (.iload_n 1, 1) := by decide +kernel
theorem d_t_enter_224 : decode b_t_enter 224 = .ok (.invokevirtual 81, 3) := by decide +kernel
theorem d_t_enter_227 : decode b_t_enter 227 = .ok (.return_, 1) := by decide +kernel
set_option maxHeartbeats 4000000 in
set_option maxRecDepth 100000 in
theorem wl_t_enter_11 {p : Program} {l : Launch} {e : Env} {s : State} {m : MethodId} {args : Array Value} {below : List Frame} {meth : Method} {c : Code} {D : va_G} {a : Nat → Nat} {cA : ClassId} {R : Room} {H : Heap} {locs : List Loc} {cells slots : Nat} {Q : State → Prop} {S : TS} {x1 x2 x3 : Int32} {y_4 y_5 : Int32} (E : CallFix p m c b_t_enter 9 s args gT R_T) (hK : va_K D classes [(cA, .int)] s) (hP : va_P D classes (wT a cA S) H) (hfit : cells + 0 ≤ R.cells ∧ slots + 0 ≤ R.slots) (hR : 2 ≤ R.frames ∧ 80 ≤ R.locals) : ∀ (k : Nat) (x4 x5 : Int32), L_t_enter_11 S x1 x2 x3 k x4 x5 = some (y_4, y_5) → ∀ ls : Array Slot, lv_has ls 9 [(0, .ref (a 0)), (1, .int x1), (2, .int x2), (3, .int x3), (4, .int x4), (5, .int x5)] → (∀ ls : Array Slot, lv_has ls 9 [(0, .ref (a 0)), (1, .int x1), (2, .int x2), (3, .int x3), (4, .int y_4), (5, .int y_5)] → W p l e R s m args below meth c H locs cells slots Q (F0 m 73 ls [])) → W p l e R s m args below meth c H locs cells slots Q (F0 m 11 ls []) := by
  have hx := E.1
  have hb := E.2.1
  intro k
  induction k with
  | zero =>
    intro x4 x5 h
    cases h
  | succ k ih =>
    intro x4 x5 h ls hl kx
    rw [L_t_enter_11] at h
    refine lv_iload hx hb d_t_enter_11 (lv_at hl 5 rfl) ?_
    refine lv_iconst (v := (-1)) hx hb d_t_enter_13 (by decide) ?_
    refine lv_icmp_eq (tgt := 73) hx hb d_t_enter_14 (by decide) (fun c3 => ?_) (fun c3 => ?_)
    · rw [if_pos c3] at h
      cases h
      exact kx ls (lv_sub hl [0, 1, 2, 3, 4, 5] rfl)
    · rw [if_neg c3] at h
      refine lv_aload_n hx hb d_t_enter_17 rfl (lv_at hl 0 rfl) ?_
      refine tg_L E hK hP d_t_enter_18 ?_
      refine lv_iload hx hb d_t_enter_21 (lv_at hl 5 rfl) ?_
      obtain ⟨g4, h⟩ := gd_some h
      refine ta_L E hK hP g4 d_t_enter_23 ?_
      refine lv_iload_n hx hb d_t_enter_24 rfl (lv_at hl 2 rfl) ?_
      refine lv_icmp_ge (tgt := 73) hx hb d_t_enter_25 (by decide) (fun c5 => ?_) (fun c5 => ?_)
      · rw [if_pos c5] at h
        cases h
        exact kx ls (lv_sub hl [0, 1, 2, 3, 4, 5] rfl)
      · rw [if_neg c5] at h
        refine lv_aload_n hx hb d_t_enter_28 rfl (lv_at hl 0 rfl) ?_
        refine tg_B E hK hP d_t_enter_29 ?_
        refine lv_iload hx hb d_t_enter_32 (lv_at hl 5 rfl) ?_
        refine ta_B E hK hP g4 d_t_enter_34 ?_
        refine lv_aload_n hx hb d_t_enter_35 rfl (lv_at hl 0 rfl) ?_
        refine tg_L E hK hP d_t_enter_36 ?_
        refine lv_iload hx hb d_t_enter_39 (lv_at hl 5 rfl) ?_
        refine ta_L E hK hP g4 d_t_enter_41 ?_
        refine lv_iload_n hx hb d_t_enter_42 rfl (lv_at hl 1 rfl) ?_
        refine lv_iload_n hx hb d_t_enter_43 rfl (lv_at hl 2 rfl) ?_
        obtain ⟨v7, e6, h⟩ := Option.bind_eq_some_iff.mp h
        refine S_call (As := [.int (sB S (cl x5)), .int (sL S (cl x5)), .int x1, .int x2]) (rest := []) (r := v7) E (c_t_common l (sB S (cl x5)) (sL S (cl x5)) x1 x2 v7 e6) k_t_common lk_t_61 ⟨by omega, by omega⟩ rfl hl.1 rfl (Nat.le_of_ble_eq_true rfl) d_t_enter_44 hfit ?_
        refine lv_aload_n hx hb d_t_enter_47 rfl (lv_at hl 0 rfl) ?_
        refine tg_L E hK hP d_t_enter_48 ?_
        refine lv_iload hx hb d_t_enter_51 (lv_at hl 5 rfl) ?_
        refine ta_L E hK hP g4 d_t_enter_53 ?_
        refine lv_icmp_ne (tgt := 73) hx hb d_t_enter_54 (by decide) (fun c8 => ?_) (fun c8 => ?_)
        · rw [if_neg c8] at h
          cases h
          exact kx ls (lv_sub hl [0, 1, 2, 3, 4, 5] rfl)
        · rw [if_pos c8] at h
          refine lv_iload hx hb d_t_enter_57 (lv_at hl 5 rfl) ?_
          refine lv_istore (lv' := [(4, .int x5), (0, .ref (a 0)), (1, .int x1), (2, .int x2), (3, .int x3), (5, .int x5)]) hx hb d_t_enter_59 hl (by decide) rfl (fun ls hl => ?_)
          refine lv_aload_n hx hb d_t_enter_61 rfl (lv_at hl 1 rfl) ?_
          refine lv_iload hx hb d_t_enter_62 (lv_at hl 5 rfl) ?_
          refine lv_iload_n hx hb d_t_enter_64 rfl (lv_at hl 2 rfl) ?_
          obtain ⟨v10, e9, h⟩ := Option.bind_eq_some_iff.mp h
          refine T_callR (As := [.int x5, .int x1]) (rest := []) (r := v10) E hK hP (c_t_child l D a cA S x5 x1 v10 e9) k_t_child lk_t_65 ⟨by omega, by omega⟩ rfl hl.1 rfl (Nat.le_of_ble_eq_true rfl) d_t_enter_65 hfit ?_
          refine lv_istore (lv' := [(5, .int v10), (4, .int x5), (0, .ref (a 0)), (1, .int x1), (2, .int x2), (3, .int x3)]) hx hb d_t_enter_68 hl (by decide) rfl (fun ls hl => ?_)
          refine lv_goto (tgt := 11) hx hb d_t_enter_70 (by decide) ?_
          exact ih x5 v10 h ls (lv_sub hl [2, 3, 4, 5, 1, 0] rfl) kx
set_option maxHeartbeats 4000000 in
set_option maxRecDepth 100000 in
theorem c_t_enter (l : Launch) (D : va_G) (a : Nat → Nat) (cA : ClassId) (S : TS) (x1 x2 x3 : Int32) (S' : TS) (h : j_t_enter S x1 x2 x3 = some S') : Met l y_t_enter (Cond.code y_t_enter b_t_enter 9 (none) :: gT) (rmL 2) (mPcT D a cA S [.ref (a 0), .int x1, .int x2, .int x3]) (mQcT D a cA none S') 0 0 (aT a) := by
  refine T_metM (by decide) (Nat.le_of_ble_eq_true rfl) ?_
  intro p e s m below meth c ls E hr hlocks hP hK hD hS hl
  have E : CallFix p m c b_t_enter 9 s _ gT R_T := E
  have hx := E.1
  have hb := E.2.1
  have hl : lv_has ls 9 [(0, .ref (a 0)), (1, .int x1), (2, .int x2), (3, .int x3)] := hl
  unfold j_t_enter at h
  refine lv_iconst (v := 0) hx hb d_t_enter_0 (by decide) ?_
  refine lv_istore (lv' := [(4, .int 0), (0, .ref (a 0)), (1, .int x1), (2, .int x2), (3, .int x3)]) hx hb d_t_enter_1 hl (by decide) rfl (fun ls hl => ?_)
  refine lv_aload_n hx hb d_t_enter_3 rfl (lv_at hl 1 rfl) ?_
  refine lv_iconst (v := 0) hx hb d_t_enter_4 (by decide) ?_
  refine lv_iload_n hx hb d_t_enter_5 rfl (lv_at hl 2 rfl) ?_
  obtain ⟨v2, e1, h⟩ := Option.bind_eq_some_iff.mp h
  refine T_callR (As := [.int 0, .int x1]) (rest := []) (r := v2) E hK hP (c_t_child l D a cA S 0 x1 v2 e1) k_t_child lk_t_65 ⟨Nat.le_of_ble_eq_true rfl, Nat.le_of_ble_eq_true rfl⟩ rfl hl.1 rfl (Nat.le_of_ble_eq_true rfl) d_t_enter_6 ⟨Nat.le_of_ble_eq_true rfl, Nat.le_of_ble_eq_true rfl⟩ ?_
  refine lv_istore (lv' := [(5, .int v2), (4, .int 0), (0, .ref (a 0)), (1, .int x1), (2, .int x2), (3, .int x3)]) hx hb d_t_enter_9 hl (by decide) rfl (fun ls hl => ?_)
  obtain ⟨⟨y11_4, y11_5⟩, e12, h⟩ := Option.bind_eq_some_iff.mp h
  try dsimp only at h
  refine wl_t_enter_11 E hK hP ⟨Nat.le_of_ble_eq_true rfl, Nat.le_of_ble_eq_true rfl⟩ ⟨Nat.le_of_ble_eq_true rfl, Nat.le_of_ble_eq_true rfl⟩ FU 0 v2 e12 ls (lv_sub hl [2, 3, 4, 5, 1, 0] rfl) (fun ls hl => ?_)
  refine lv_aload_n hx hb d_t_enter_73 rfl (lv_at hl 0 rfl) ?_
  refine lv_iload_n hx hb d_t_enter_74 rfl (lv_at hl 1 rfl) ?_
  refine lv_iload_n hx hb d_t_enter_75 rfl (lv_at hl 2 rfl) ?_
  refine lv_iload_n hx hb d_t_enter_76 rfl (lv_at hl 3 rfl) ?_
  obtain ⟨⟨v15, S14⟩, e13, h⟩ := Option.bind_eq_some_iff.mp h
  try dsimp only at h
  refine T_callM (As := [.int x1, .int x2, .int x3]) (rest := []) (v := some (.int v15)) (S' := S14) E hK hD hP hS (c_t_make l D a cA S x1 x2 x3 v15 S14 e13) k_t_make lk_t_38 ⟨Nat.le_of_ble_eq_true rfl, Nat.le_of_ble_eq_true rfl⟩ rfl hl.1 rfl (Nat.le_of_ble_eq_true rfl) d_t_enter_77 ⟨Nat.le_of_ble_eq_true rfl, Nat.le_of_ble_eq_true rfl⟩ (fun H locs hP hS _ _ => ?_)
  refine W.eq (g2 := F0 m 80 ls [.int v15]) rfl ?_
  refine lv_istore (lv' := [(6, .int v15), (0, .ref (a 0)), (1, .int x1), (2, .int x2), (3, .int x3), (4, .int y11_4), (5, .int y11_5)]) hx hb d_t_enter_80 hl (by decide) rfl (fun ls hl => ?_)
  refine lv_iload hx hb d_t_enter_82 (lv_at hl 6 rfl) ?_
  refine lv_iconst (v := (-1)) hx hb d_t_enter_84 (by decide) ?_
  refine lv_icmp_ne (tgt := 98) hx hb d_t_enter_85 (by decide) (fun c17 => ?_) (fun c17 => ?_)
  · rw [if_neg c17] at h
    refine lv_aload_n hx hb d_t_enter_98 rfl (lv_at hl 1 rfl) ?_
    refine tg_B E hK hP d_t_enter_99 ?_
    refine lv_iload hx hb d_t_enter_102 (lv_at hl 6 rfl) ?_
    obtain ⟨g18, h⟩ := gd_some h
    refine ta_B E hK hP g18 d_t_enter_104 ?_
    refine lv_aload_n hx hb d_t_enter_105 rfl (lv_at hl 1 rfl) ?_
    refine tg_L E hK hP d_t_enter_106 ?_
    refine lv_iload hx hb d_t_enter_109 (lv_at hl 6 rfl) ?_
    refine ta_L E hK hP g18 d_t_enter_111 ?_
    refine lv_iload_n hx hb d_t_enter_112 rfl (lv_at hl 2 rfl) ?_
    refine lv_iload_n hx hb d_t_enter_113 rfl (lv_at hl 3 rfl) ?_
    obtain ⟨v20, e19, h⟩ := Option.bind_eq_some_iff.mp h
    refine S_call (As := [.int (sB S14 (cl y11_5)), .int (sL S14 (cl y11_5)), .int x1, .int x2]) (rest := []) (r := v20) E (c_t_common l (sB S14 (cl y11_5)) (sL S14 (cl y11_5)) x1 x2 v20 e19) k_t_common lk_t_61 ⟨Nat.le_of_ble_eq_true rfl, Nat.le_of_ble_eq_true rfl⟩ rfl hl.1 rfl (Nat.le_of_ble_eq_true rfl) d_t_enter_114 ⟨Nat.le_of_ble_eq_true rfl, Nat.le_of_ble_eq_true rfl⟩ ?_
    refine lv_istore (lv' := [(7, .int v20), (6, .int v15), (0, .ref (a 0)), (1, .int x1), (2, .int x2), (3, .int x3), (4, .int y11_4), (5, .int y11_5)]) hx hb d_t_enter_117 hl (by decide) rfl (fun ls hl => ?_)
    refine lv_iload hx hb d_t_enter_119 (lv_at hl 0 rfl) ?_
    refine lv_iload_n hx hb d_t_enter_121 rfl (lv_at hl 4 rfl) ?_
    refine lv_icmp_ne (tgt := 164) hx hb d_t_enter_122 (by decide) (fun c21 => ?_) (fun c21 => ?_)
    · rw [if_neg c21] at h
      refine lv_aload_n hx hb d_t_enter_164 rfl (lv_at hl 2 rfl) ?_
      refine lv_iload_n hx hb d_t_enter_165 rfl (lv_at hl 3 rfl) ?_
      refine lv_iload hx hb d_t_enter_166 (lv_at hl 0 rfl) ?_
      obtain ⟨v23, e22, h⟩ := Option.bind_eq_some_iff.mp h
      refine S_call (As := [.int v20]) (rest := [.int x1, .ref (a 0)]) (r := v23) E (c_t_mask l v20 v23 e22) k_t_mask lk_t_42 ⟨Nat.le_of_ble_eq_true rfl, Nat.le_of_ble_eq_true rfl⟩ rfl hl.1 rfl (Nat.le_of_ble_eq_true rfl) d_t_enter_168 ⟨Nat.le_of_ble_eq_true rfl, Nat.le_of_ble_eq_true rfl⟩ ?_
      refine lv_iand hx hb d_t_enter_171 ?_
      refine lv_iload hx hb d_t_enter_172 (lv_at hl 0 rfl) ?_
      refine lv_iconst (v := (-1)) hx hb d_t_enter_174 (by decide) ?_
      obtain ⟨⟨v26, S25⟩, e24, h⟩ := Option.bind_eq_some_iff.mp h
      try dsimp only at h
      refine T_callM (As := [.int (x1 &&& v23), .int v20, .int ((-1))]) (rest := []) (v := some (.int v26)) (S' := S25) E hK hD hP hS (c_t_make l D a cA S14 (x1 &&& v23) v20 ((-1)) v26 S25 e24) k_t_make lk_t_38 ⟨Nat.le_of_ble_eq_true rfl, Nat.le_of_ble_eq_true rfl⟩ rfl hl.1 rfl (Nat.le_of_ble_eq_true rfl) d_t_enter_175 ⟨Nat.le_of_ble_eq_true rfl, Nat.le_of_ble_eq_true rfl⟩ (fun H locs hP hS _ _ => ?_)
      refine W.eq (g2 := F0 m 178 ls [.int v26]) rfl ?_
      refine lv_istore (lv' := [(8, .int v26), (7, .int v20), (6, .int v15), (0, .ref (a 0)), (1, .int x1), (2, .int x2), (3, .int x3), (4, .int y11_4), (5, .int y11_5)]) hx hb d_t_enter_178 hl (by decide) rfl (fun ls hl => ?_)
      refine lv_aload_n hx hb d_t_enter_180 rfl (lv_at hl 3 rfl) ?_
      refine lv_iload hx hb d_t_enter_181 (lv_at hl 0 rfl) ?_
      refine lv_iload hx hb d_t_enter_183 (lv_at hl 8 rfl) ?_
      refine lv_aload_n hx hb d_t_enter_185 rfl (lv_at hl 3 rfl) ?_
      refine tg_B E hK hP d_t_enter_186 ?_
      refine lv_iload hx hb d_t_enter_189 (lv_at hl 8 rfl) ?_
      refine ta_B E hK hP g18 d_t_enter_191 ?_
      obtain ⟨S29, e28, h⟩ := Option.bind_eq_some_iff.mp h
      refine T_callM (As := [.int v26, .int y11_5, .int (sB S25 (cl y11_5))]) (rest := []) (v := none) (S' := S29) E hK hD hP hS (c_t_hang l D a cA S25 v26 y11_5 (sB S25 (cl y11_5)) S29 e28) k_t_hang lk_t_81 ⟨Nat.le_of_ble_eq_true rfl, Nat.le_of_ble_eq_true rfl⟩ rfl hl.1 rfl (Nat.le_of_ble_eq_true rfl) d_t_enter_192 ⟨Nat.le_of_ble_eq_true rfl, Nat.le_of_ble_eq_true rfl⟩ (fun H locs hP hS _ _ => ?_)
      refine W.eq (g2 := F0 m 195 ls []) rfl ?_
      refine lv_aload_n hx hb d_t_enter_195 rfl (lv_at hl 3 rfl) ?_
      refine lv_iload hx hb d_t_enter_196 (lv_at hl 0 rfl) ?_
      refine lv_iload hx hb d_t_enter_198 (lv_at hl 2 rfl) ?_
      refine lv_iload_n hx hb d_t_enter_200 rfl (lv_at hl 4 rfl) ?_
      obtain ⟨S31, e30, h⟩ := Option.bind_eq_some_iff.mp h
      refine T_callM (As := [.int v26, .int v15, .int x1]) (rest := []) (v := none) (S' := S31) E hK hD hP hS (c_t_hang l D a cA S29 v26 v15 x1 S31 e30) k_t_hang lk_t_81 ⟨Nat.le_of_ble_eq_true rfl, Nat.le_of_ble_eq_true rfl⟩ rfl hl.1 rfl (Nat.le_of_ble_eq_true rfl) d_t_enter_201 ⟨Nat.le_of_ble_eq_true rfl, Nat.le_of_ble_eq_true rfl⟩ (fun H locs hP hS _ _ => ?_)
      refine W.eq (g2 := F0 m 204 ls []) rfl ?_
      refine lv_aload_n hx hb d_t_enter_204 rfl (lv_at hl 3 rfl) ?_
      refine tg_W E hK hP d_t_enter_205 ?_
      refine lv_iload hx hb d_t_enter_208 (lv_at hl 0 rfl) ?_
      refine lv_aload_n hx hb d_t_enter_210 rfl (lv_at hl 3 rfl) ?_
      refine tg_W E hK hP d_t_enter_211 ?_
      refine lv_iload hx hb d_t_enter_214 (lv_at hl 8 rfl) ?_
      refine ta_W E hK hP g18 d_t_enter_216 ?_
      obtain ⟨g32, h⟩ := gd_some h
      refine ts_W E hK hD hP hS g32 d_t_enter_217 (fun H locs hP hS => ?_)
      refine lv_aload_n hx hb d_t_enter_218 rfl (lv_at hl 3 rfl) ?_
      refine lv_iload hx hb d_t_enter_219 (lv_at hl 7 rfl) ?_
      refine lv_iload hx hb d_t_enter_221 (lv_at hl 0 rfl) ?_
      refine lv_iload_n hx hb d_t_enter_223 rfl (lv_at hl 4 rfl) ?_
      obtain ⟨S34, e33, h⟩ := Option.bind_eq_some_iff.mp h
      refine T_callM (As := [.int y11_4, .int v26, .int x1]) (rest := []) (v := none) (S' := S34) E hK hD hP hS (c_t_hang l D a cA (uW S31 (cl v26) (sW S31 (cl y11_5))) y11_4 v26 x1 S34 e33) k_t_hang lk_t_81 ⟨Nat.le_of_ble_eq_true rfl, Nat.le_of_ble_eq_true rfl⟩ rfl hl.1 rfl (Nat.le_of_ble_eq_true rfl) d_t_enter_224 ⟨Nat.le_of_ble_eq_true rfl, Nat.le_of_ble_eq_true rfl⟩ (fun H locs hP hS _ _ => ?_)
      refine W.eq (g2 := F0 m 227 ls []) rfl ?_
      cases h
      exact W.vret hx hb hr (fun t ht hW => ⟨rfl, by rw [ht]; exact hP, hS.F ht⟩) hS.2.2 d_t_enter_227
    · rw [if_pos c21] at h
      refine lv_aload_n hx hb d_t_enter_125 rfl (lv_at hl 2 rfl) ?_
      refine lv_iload hx hb d_t_enter_126 (lv_at hl 1 rfl) ?_
      refine lv_iload hx hb d_t_enter_128 (lv_at hl 7 rfl) ?_
      refine lv_aload_n hx hb d_t_enter_130 rfl (lv_at hl 2 rfl) ?_
      refine tg_B E hK hP d_t_enter_131 ?_
      refine lv_iload hx hb d_t_enter_134 (lv_at hl 7 rfl) ?_
      refine ta_B E hK hP g18 d_t_enter_136 ?_
      obtain ⟨S36, e35, h⟩ := Option.bind_eq_some_iff.mp h
      refine T_callM (As := [.int v15, .int y11_5, .int (sB S14 (cl y11_5))]) (rest := []) (v := none) (S' := S36) E hK hD hP hS (c_t_hang l D a cA S14 v15 y11_5 (sB S14 (cl y11_5)) S36 e35) k_t_hang lk_t_81 ⟨Nat.le_of_ble_eq_true rfl, Nat.le_of_ble_eq_true rfl⟩ rfl hl.1 rfl (Nat.le_of_ble_eq_true rfl) d_t_enter_137 ⟨Nat.le_of_ble_eq_true rfl, Nat.le_of_ble_eq_true rfl⟩ (fun H locs hP hS _ _ => ?_)
      refine W.eq (g2 := F0 m 140 ls []) rfl ?_
      refine lv_aload_n hx hb d_t_enter_140 rfl (lv_at hl 2 rfl) ?_
      refine tg_W E hK hP d_t_enter_141 ?_
      refine lv_iload hx hb d_t_enter_144 (lv_at hl 1 rfl) ?_
      refine lv_aload_n hx hb d_t_enter_146 rfl (lv_at hl 2 rfl) ?_
      refine tg_W E hK hP d_t_enter_147 ?_
      refine lv_iload hx hb d_t_enter_150 (lv_at hl 7 rfl) ?_
      refine ta_W E hK hP g18 d_t_enter_152 ?_
      obtain ⟨g37, h⟩ := gd_some h
      refine ts_W E hK hD hP hS g37 d_t_enter_153 (fun H locs hP hS => ?_)
      refine lv_aload_n hx hb d_t_enter_154 rfl (lv_at hl 2 rfl) ?_
      refine lv_iload hx hb d_t_enter_155 (lv_at hl 6 rfl) ?_
      refine lv_iload hx hb d_t_enter_157 (lv_at hl 1 rfl) ?_
      refine lv_iload_n hx hb d_t_enter_159 rfl (lv_at hl 3 rfl) ?_
      obtain ⟨S39, e38, h⟩ := Option.bind_eq_some_iff.mp h
      refine T_callM (As := [.int y11_4, .int v15, .int x1]) (rest := []) (v := none) (S' := S39) E hK hD hP hS (c_t_hang l D a cA (uW S36 (cl v15) (sW S36 (cl y11_5))) y11_4 v15 x1 S39 e38) k_t_hang lk_t_81 ⟨Nat.le_of_ble_eq_true rfl, Nat.le_of_ble_eq_true rfl⟩ rfl hl.1 rfl (Nat.le_of_ble_eq_true rfl) d_t_enter_160 ⟨Nat.le_of_ble_eq_true rfl, Nat.le_of_ble_eq_true rfl⟩ (fun H locs hP hS _ _ => ?_)
      refine W.eq (g2 := F0 m 163 ls []) rfl ?_
      cases h
      exact W.vret hx hb hr (fun t ht hW => ⟨rfl, by rw [ht]; exact hP, hS.F ht⟩) hS.2.2 d_t_enter_163
  · rw [if_pos c17] at h
    refine lv_aload_n hx hb d_t_enter_88 rfl (lv_at hl 1 rfl) ?_
    refine lv_iload hx hb d_t_enter_89 (lv_at hl 5 rfl) ?_
    refine lv_iload hx hb d_t_enter_91 (lv_at hl 0 rfl) ?_
    refine lv_iload_n hx hb d_t_enter_93 rfl (lv_at hl 2 rfl) ?_
    obtain ⟨S41, e40, h⟩ := Option.bind_eq_some_iff.mp h
    refine T_callM (As := [.int y11_4, .int v15, .int x1]) (rest := []) (v := none) (S' := S41) E hK hD hP hS (c_t_hang l D a cA S14 y11_4 v15 x1 S41 e40) k_t_hang lk_t_81 ⟨Nat.le_of_ble_eq_true rfl, Nat.le_of_ble_eq_true rfl⟩ rfl hl.1 rfl (Nat.le_of_ble_eq_true rfl) d_t_enter_94 ⟨Nat.le_of_ble_eq_true rfl, Nat.le_of_ble_eq_true rfl⟩ (fun H locs hP hS _ _ => ?_)
    refine W.eq (g2 := F0 m 97 ls []) rfl ?_
    cases h
    exact W.vret hx hb hr (fun t ht hW => ⟨rfl, by rw [ht]; exact hP, hS.F ht⟩) hS.2.2 d_t_enter_97
theorem d_t_insert_0 : decode b_t_insert 0 = .ok (.iload_n 1, 1) := by decide +kernel
theorem d_t_insert_1 : decode b_t_insert 1 = .ok (.iload_n 2, 1) := by decide +kernel
theorem d_t_insert_2 : decode b_t_insert 2 = .ok (.invokestatic 68, 3) := by decide +kernel
theorem d_t_insert_5 : decode b_t_insert 5 = .ok (.ifCond .eq 7, 3) := by decide +kernel
theorem d_t_insert_8 : decode b_t_insert 8 = .ok (.iload_n 3, 1) := by decide +kernel
theorem d_t_insert_9 : decode b_t_insert 9 = .ok (.ifCond .ge 5, 3) := by decide +kernel
theorem d_t_insert_12 : decode b_t_insert 12 = .ok (.iconst (-1), 1) := by decide +kernel
theorem d_t_insert_13 : decode b_t_insert 13 = .ok (.ireturn, 1) := by decide +kernel
theorem d_t_insert_14 : decode b_t_insert 14 = .ok (.aload_n 0, 1) := by decide +kernel
theorem d_t_insert_15 : decode b_t_insert 15 = .ok (.iload_n 1, 1) := by decide +kernel
theorem d_t_insert_16 : decode b_t_insert 16 = .ok (.iload_n 2, 1) := by decide +kernel
theorem d_t_insert_17 : decode b_t_insert 17 = .ok (.invokevirtual 71, 3) := by decide +kernel
theorem d_t_insert_20 : decode b_t_insert 20 = .ok (.istore 4, 2) := by decide +kernel
theorem d_t_insert_22 : decode b_t_insert 22 = .ok (.iload 4, 2) := by decide +kernel
theorem d_t_insert_24 : decode b_t_insert 24 = .ok (.iconst (-1), 1) := by decide +kernel
theorem d_t_insert_25 : decode b_t_insert 25 = .ok (.if_icmp .eq 24, 3) := by decide +kernel
theorem d_t_insert_28 : decode b_t_insert 28 = .ok (.aload_n 0, 1) := by decide +kernel
theorem d_t_insert_29 : decode b_t_insert 29 = .ok (.getfield 16, 3) := by decide +kernel
theorem d_t_insert_32 : decode b_t_insert 32 = .ok (.iload 4, 2) := by decide +kernel
theorem d_t_insert_34 : decode b_t_insert 34 = .ok (.iaload, 1) := by decide +kernel
theorem d_t_insert_35 : decode b_t_insert 35 = .ok (.iconst (-1), 1) := by decide +kernel
theorem d_t_insert_36 : decode b_t_insert 36 = .ok (.if_icmp .eq 13, 3) := by decide +kernel
theorem d_t_insert_39 : decode b_t_insert 39 = .ok (.aload_n 0, 1) := by decide +kernel
theorem d_t_insert_40 : decode b_t_insert 40 = .ok (.getfield 16, 3) := by decide +kernel
theorem d_t_insert_43 : decode b_t_insert 43 = .ok (.iload 4, 2) := by decide +kernel
theorem d_t_insert_45 : decode b_t_insert 45 = .ok (.iload_n 3, 1) := by decide +kernel
theorem d_t_insert_46 : decode b_t_insert 46 = .ok (.iastore, 1) := by decide +kernel
theorem d_t_insert_47 : decode b_t_insert 47 = .ok (.iconst 0, 1) := by decide +kernel
theorem d_t_insert_48 : decode b_t_insert 48 = .ok (.ireturn, 1) := by decide +kernel
theorem d_t_insert_49 : decode b_t_insert 49 = .ok (.aload_n 0, 1) := by decide +kernel
theorem d_t_insert_50 : decode b_t_insert 50 = .ok (.getfield 25, 3) := by decide +kernel
theorem d_t_insert_53 : decode b_t_insert 53 = .ok (.iconst 0, 1) := by decide +kernel
theorem d_t_insert_54 : decode b_t_insert 54 = .ok (.iaload, 1) := by decide +kernel
theorem d_t_insert_55 : decode b_t_insert 55 = .ok (.sipush 500, 3) := by decide +kernel
theorem d_t_insert_58 : decode b_t_insert 58 = .ok (.if_icmp .ne 6, 3) := by decide +kernel
theorem d_t_insert_61 : decode b_t_insert 61 = .ok (.bipush (-2), 2) := by decide +kernel
theorem d_t_insert_63 : decode b_t_insert 63 = .ok (.ireturn, 1) := by decide +kernel
theorem d_t_insert_64 : decode b_t_insert 64 = .ok (.iload 4, 2) := by decide +kernel
theorem d_t_insert_66 : decode b_t_insert 66 = .ok (.iconst (-1), 1) := by decide +kernel
theorem d_t_insert_67 : decode b_t_insert 67 = .ok (.if_icmp .ne 13, 3) := by decide +kernel
theorem d_t_insert_70 : decode b_t_insert 70 = .ok (.aload_n 0, 1) := by decide +kernel
theorem d_t_insert_71 : decode b_t_insert 71 = .ok (.iload_n 1, 1) := by decide +kernel
theorem d_t_insert_72 : decode b_t_insert 72 = .ok (.iload_n 2, 1) := by decide +kernel
theorem d_t_insert_73 : decode b_t_insert 73 = .ok (.iload_n 3, 1) := by decide +kernel
theorem d_t_insert_74 : decode b_t_insert 74 = .ok (.invokevirtual 74, 3) := by decide +kernel
theorem d_t_insert_77 : decode b_t_insert 77 = .ok (.goto 11, 3) := by decide +kernel
theorem d_t_insert_80 : decode b_t_insert 80 = .ok (.aload_n 0, 1) := by decide +kernel
theorem d_t_insert_81 : decode b_t_insert 81 = .ok (.getfield 16, 3) := by decide +kernel
theorem d_t_insert_84 : decode b_t_insert 84 = .ok (.iload 4, 2) := by decide +kernel
theorem d_t_insert_86 : decode b_t_insert 86 = .ok (.iload_n 3, 1) := by decide +kernel
theorem d_t_insert_87 : decode b_t_insert 87 = .ok (.iastore, 1) := by decide +kernel
theorem d_t_insert_88 : decode b_t_insert 88 = .ok (.aload_n 0, 1) := by decide +kernel
theorem d_t_insert_89 : decode b_t_insert 89 = .ok (.iload_n 1, 1) := by decide +kernel
theorem d_t_insert_90 : decode b_t_insert 90 = .ok (.iload_n 2, 1) := by decide +kernel
theorem d_t_insert_91 : decode b_t_insert 91 = .ok (.iconst 1, 1) := by decide +kernel
theorem d_t_insert_92 : decode b_t_insert 92 = .ok (.invokevirtual 78, 3) := by decide +kernel
theorem d_t_insert_95 : decode b_t_insert 95 = .ok (.iconst 1, 1) := by decide +kernel
theorem d_t_insert_96 : decode b_t_insert 96 = .ok (.ireturn, 1) := by decide +kernel
set_option maxHeartbeats 4000000 in
set_option maxRecDepth 100000 in
theorem c_t_insert (l : Launch) (D : va_G) (a : Nat → Nat) (cA : ClassId) (S : TS) (x1 x2 x3 : Int32) (r : Int32) (S' : TS) (h : j_t_insert S x1 x2 x3 = some (r, S')) : Met l y_t_insert (Cond.code y_t_insert b_t_insert 5 (some .int) :: gT) (rmL 3) (mPcT D a cA S [.ref (a 0), .int x1, .int x2, .int x3]) (mQcT D a cA (some (.int r)) S') 0 0 (aT a) := by
  refine T_metM (by decide) (Nat.le_of_ble_eq_true rfl) ?_
  intro p e s m below meth c ls E hr hlocks hP hK hD hS hl
  have E : CallFix p m c b_t_insert 5 s _ gT R_T := E
  have hx := E.1
  have hb := E.2.1
  have hl : lv_has ls 5 [(0, .ref (a 0)), (1, .int x1), (2, .int x2), (3, .int x3)] := hl
  unfold j_t_insert at h
  refine lv_iload_n hx hb d_t_insert_0 rfl (lv_at hl 1 rfl) ?_
  refine lv_iload_n hx hb d_t_insert_1 rfl (lv_at hl 2 rfl) ?_
  obtain ⟨v2, e1, h⟩ := Option.bind_eq_some_iff.mp h
  refine S_call (As := [.int x1, .int x2]) (rest := []) (r := v2) E (c_t_isPrefix l x1 x2 v2 e1) k_t_isPrefix lk_t_68 ⟨Nat.le_of_ble_eq_true rfl, Nat.le_of_ble_eq_true rfl⟩ rfl hl.1 rfl (Nat.le_of_ble_eq_true rfl) d_t_insert_2 ⟨Nat.le_of_ble_eq_true rfl, Nat.le_of_ble_eq_true rfl⟩ ?_
  refine lv_if_eq (tgt := 12) hx hb d_t_insert_5 (by decide) (fun c3 => ?_) (fun c3 => ?_)
  · rw [if_pos c3] at h
    refine lv_iconst (v := (-1)) hx hb d_t_insert_12 (by decide) ?_
    cases h
    exact W.iret (v := _) hx hb hr (fun t ht hW => ⟨rfl, by rw [ht]; exact hP, hS.F ht⟩) hS.2.2 d_t_insert_13
  · rw [if_neg c3] at h
    refine lv_iload_n hx hb d_t_insert_8 rfl (lv_at hl 3 rfl) ?_
    refine lv_if_ge (tgt := 14) hx hb d_t_insert_9 (by decide) (fun c4 => ?_) (fun c4 => ?_)
    · rw [if_pos c4] at h
      refine lv_aload_n hx hb d_t_insert_14 rfl (lv_at hl 0 rfl) ?_
      refine lv_iload_n hx hb d_t_insert_15 rfl (lv_at hl 1 rfl) ?_
      refine lv_iload_n hx hb d_t_insert_16 rfl (lv_at hl 2 rfl) ?_
      obtain ⟨v6, e5, h⟩ := Option.bind_eq_some_iff.mp h
      refine T_callR (As := [.int x1, .int x2]) (rest := []) (r := v6) E hK hP (c_t_find l D a cA S x1 x2 v6 e5) k_t_find lk_t_71 ⟨Nat.le_of_ble_eq_true rfl, Nat.le_of_ble_eq_true rfl⟩ rfl hl.1 rfl (Nat.le_of_ble_eq_true rfl) d_t_insert_17 ⟨Nat.le_of_ble_eq_true rfl, Nat.le_of_ble_eq_true rfl⟩ ?_
      refine lv_istore (lv' := [(4, .int v6), (0, .ref (a 0)), (1, .int x1), (2, .int x2), (3, .int x3)]) hx hb d_t_insert_20 hl (by decide) rfl (fun ls hl => ?_)
      refine lv_iload hx hb d_t_insert_22 (lv_at hl 0 rfl) ?_
      refine lv_iconst (v := (-1)) hx hb d_t_insert_24 (by decide) ?_
      refine lv_icmp_eq (tgt := 49) hx hb d_t_insert_25 (by decide) (fun c7 => ?_) (fun c7 => ?_)
      · rw [if_pos c7] at h
        refine lv_aload_n hx hb d_t_insert_49 rfl (lv_at hl 1 rfl) ?_
        refine tg_W E hK hP d_t_insert_50 ?_
        refine lv_iconst (v := 0) hx hb d_t_insert_53 (by decide) ?_
        obtain ⟨g8, h⟩ := gd_some h
        refine ta_W E hK hP g8 d_t_insert_54 ?_
        refine lv_sipush (v := 500) hx hb d_t_insert_55 (by decide) ?_
        refine lv_icmp_ne (tgt := 64) hx hb d_t_insert_58 (by decide) (fun c9 => ?_) (fun c9 => ?_)
        · rw [if_neg c9] at h
          refine lv_iload hx hb d_t_insert_64 (lv_at hl 0 rfl) ?_
          refine lv_iconst (v := (-1)) hx hb d_t_insert_66 (by decide) ?_
          refine lv_icmp_ne (tgt := 80) hx hb d_t_insert_67 (by decide) (fun c10 => absurd c7 c10) (fun _ => ?_)
          refine lv_aload_n hx hb d_t_insert_70 rfl (lv_at hl 1 rfl) ?_
          refine lv_iload_n hx hb d_t_insert_71 rfl (lv_at hl 2 rfl) ?_
          refine lv_iload_n hx hb d_t_insert_72 rfl (lv_at hl 3 rfl) ?_
          refine lv_iload_n hx hb d_t_insert_73 rfl (lv_at hl 4 rfl) ?_
          obtain ⟨S12, e11, h⟩ := Option.bind_eq_some_iff.mp h
          refine T_callM (As := [.int x1, .int x2, .int x3]) (rest := []) (v := none) (S' := S12) E hK hD hP hS (c_t_enter l D a cA S x1 x2 x3 S12 e11) k_t_enter lk_t_74 ⟨Nat.le_of_ble_eq_true rfl, Nat.le_of_ble_eq_true rfl⟩ rfl hl.1 rfl (Nat.le_of_ble_eq_true rfl) d_t_insert_74 ⟨Nat.le_of_ble_eq_true rfl, Nat.le_of_ble_eq_true rfl⟩ (fun H locs hP hS _ _ => ?_)
          refine W.eq (g2 := F0 m 77 ls []) rfl ?_
          refine lv_goto (tgt := 88) hx hb d_t_insert_77 (by decide) ?_
          refine lv_aload_n hx hb d_t_insert_88 rfl (lv_at hl 1 rfl) ?_
          refine lv_iload_n hx hb d_t_insert_89 rfl (lv_at hl 2 rfl) ?_
          refine lv_iload_n hx hb d_t_insert_90 rfl (lv_at hl 3 rfl) ?_
          refine lv_iconst (v := 1) hx hb d_t_insert_91 (by decide) ?_
          obtain ⟨S14, e13, h⟩ := Option.bind_eq_some_iff.mp h
          refine T_callM (As := [.int x1, .int x2, .int 1]) (rest := []) (v := none) (S' := S14) E hK hD hP hS (c_t_tell l D a cA S12 x1 x2 1 S14 e13) k_t_tell lk_t_78 ⟨Nat.le_of_ble_eq_true rfl, Nat.le_of_ble_eq_true rfl⟩ rfl hl.1 rfl (Nat.le_of_ble_eq_true rfl) d_t_insert_92 ⟨Nat.le_of_ble_eq_true rfl, Nat.le_of_ble_eq_true rfl⟩ (fun H locs hP hS _ _ => ?_)
          refine W.eq (g2 := F0 m 95 ls []) rfl ?_
          refine lv_iconst (v := 1) hx hb d_t_insert_95 (by decide) ?_
          cases h
          exact W.iret (v := _) hx hb hr (fun t ht hW => ⟨rfl, by rw [ht]; exact hP, hS.F ht⟩) hS.2.2 d_t_insert_96
        · rw [if_pos c9] at h
          refine lv_bipush (v := (-2)) hx hb d_t_insert_61 (by decide) ?_
          cases h
          exact W.iret (v := _) hx hb hr (fun t ht hW => ⟨rfl, by rw [ht]; exact hP, hS.F ht⟩) hS.2.2 d_t_insert_63
      · rw [if_neg c7] at h
        refine lv_aload_n hx hb d_t_insert_28 rfl (lv_at hl 1 rfl) ?_
        refine tg_H E hK hP d_t_insert_29 ?_
        refine lv_iload hx hb d_t_insert_32 (lv_at hl 0 rfl) ?_
        obtain ⟨g15, h⟩ := gd_some h
        refine ta_H E hK hP g15 d_t_insert_34 ?_
        refine lv_iconst (v := (-1)) hx hb d_t_insert_35 (by decide) ?_
        refine lv_icmp_eq (tgt := 49) hx hb d_t_insert_36 (by decide) (fun c16 => ?_) (fun c16 => ?_)
        · rw [if_pos c16] at h
          refine lv_aload_n hx hb d_t_insert_49 rfl (lv_at hl 1 rfl) ?_
          refine tg_W E hK hP d_t_insert_50 ?_
          refine lv_iconst (v := 0) hx hb d_t_insert_53 (by decide) ?_
          obtain ⟨g17, h⟩ := gd_some h
          refine ta_W E hK hP g17 d_t_insert_54 ?_
          refine lv_sipush (v := 500) hx hb d_t_insert_55 (by decide) ?_
          refine lv_icmp_ne (tgt := 64) hx hb d_t_insert_58 (by decide) (fun c18 => ?_) (fun c18 => ?_)
          · rw [if_neg c18] at h
            refine lv_iload hx hb d_t_insert_64 (lv_at hl 0 rfl) ?_
            refine lv_iconst (v := (-1)) hx hb d_t_insert_66 (by decide) ?_
            refine lv_icmp_ne (tgt := 80) hx hb d_t_insert_67 (by decide) (fun _ => ?_) (fun c19 => absurd c19 c7)
            refine lv_aload_n hx hb d_t_insert_80 rfl (lv_at hl 1 rfl) ?_
            refine tg_H E hK hP d_t_insert_81 ?_
            refine lv_iload hx hb d_t_insert_84 (lv_at hl 0 rfl) ?_
            refine lv_iload_n hx hb d_t_insert_86 rfl (lv_at hl 4 rfl) ?_
            refine ts_H E hK hD hP hS g15 d_t_insert_87 (fun H locs hP hS => ?_)
            refine lv_aload_n hx hb d_t_insert_88 rfl (lv_at hl 1 rfl) ?_
            refine lv_iload_n hx hb d_t_insert_89 rfl (lv_at hl 2 rfl) ?_
            refine lv_iload_n hx hb d_t_insert_90 rfl (lv_at hl 3 rfl) ?_
            refine lv_iconst (v := 1) hx hb d_t_insert_91 (by decide) ?_
            obtain ⟨S21, e20, h⟩ := Option.bind_eq_some_iff.mp h
            refine T_callM (As := [.int x1, .int x2, .int 1]) (rest := []) (v := none) (S' := S21) E hK hD hP hS (c_t_tell l D a cA (uH S (cl v6) x3) x1 x2 1 S21 e20) k_t_tell lk_t_78 ⟨Nat.le_of_ble_eq_true rfl, Nat.le_of_ble_eq_true rfl⟩ rfl hl.1 rfl (Nat.le_of_ble_eq_true rfl) d_t_insert_92 ⟨Nat.le_of_ble_eq_true rfl, Nat.le_of_ble_eq_true rfl⟩ (fun H locs hP hS _ _ => ?_)
            refine W.eq (g2 := F0 m 95 ls []) rfl ?_
            refine lv_iconst (v := 1) hx hb d_t_insert_95 (by decide) ?_
            cases h
            exact W.iret (v := _) hx hb hr (fun t ht hW => ⟨rfl, by rw [ht]; exact hP, hS.F ht⟩) hS.2.2 d_t_insert_96
          · rw [if_pos c18] at h
            refine lv_bipush (v := (-2)) hx hb d_t_insert_61 (by decide) ?_
            cases h
            exact W.iret (v := _) hx hb hr (fun t ht hW => ⟨rfl, by rw [ht]; exact hP, hS.F ht⟩) hS.2.2 d_t_insert_63
        · rw [if_neg c16] at h
          refine lv_aload_n hx hb d_t_insert_39 rfl (lv_at hl 1 rfl) ?_
          refine tg_H E hK hP d_t_insert_40 ?_
          refine lv_iload hx hb d_t_insert_43 (lv_at hl 0 rfl) ?_
          refine lv_iload_n hx hb d_t_insert_45 rfl (lv_at hl 4 rfl) ?_
          refine ts_H E hK hD hP hS g15 d_t_insert_46 (fun H locs hP hS => ?_)
          refine lv_iconst (v := 0) hx hb d_t_insert_47 (by decide) ?_
          cases h
          exact W.iret (v := _) hx hb hr (fun t ht hW => ⟨rfl, by rw [ht]; exact hP, hS.F ht⟩) hS.2.2 d_t_insert_48
    · rw [if_neg c4] at h
      refine lv_iconst (v := (-1)) hx hb d_t_insert_12 (by decide) ?_
      cases h
      exact W.iret (v := _) hx hb hr (fun t ht hW => ⟨rfl, by rw [ht]; exact hP, hS.F ht⟩) hS.2.2 d_t_insert_13
theorem d_t_settle_0 : decode b_t_settle 0 = .ok (.iload_n 1, 1) := by decide +kernel
theorem d_t_settle_1 : decode b_t_settle 1 = .ok (.ifCond .eq 33, 3) := by decide +kernel
theorem d_t_settle_4 : decode b_t_settle 4 = .ok (.aload_n 0, 1) := by decide +kernel
theorem d_t_settle_5 : decode b_t_settle 5 = .ok (.getfield 16, 3) := by decide +kernel
theorem d_t_settle_8 : decode b_t_settle 8 = .ok (.iload_n 1, 1) := by decide +kernel
theorem d_t_settle_9 : decode b_t_settle 9 = .ok (.iaload, 1) := by decide +kernel
theorem d_t_settle_10 : decode b_t_settle 10 = .ok (.iconst (-1), 1) := by decide +kernel
theorem d_t_settle_11 : decode b_t_settle 11 = .ok (.if_icmp .ne 23, 3) := by decide +kernel
theorem d_t_settle_14 : decode b_t_settle 14 = .ok (.aload_n 0, 1) := by decide +kernel
theorem d_t_settle_15 : decode b_t_settle 15 = .ok (.getfield 19, 3) := by decide +kernel
theorem d_t_settle_18 : decode b_t_settle 18 = .ok (.iload_n 1, 1) := by decide +kernel
theorem d_t_settle_19 : decode b_t_settle 19 = .ok (.iaload, 1) := by decide +kernel
theorem d_t_settle_20 : decode b_t_settle 20 = .ok (.iconst (-1), 1) := by decide +kernel
theorem d_t_settle_21 : decode b_t_settle 21 = .ok (.if_icmp .eq 14, 3) := by decide +kernel
theorem d_t_settle_24 : decode b_t_settle 24 = .ok (.aload_n 0, 1) := by decide +kernel
theorem d_t_settle_25 : decode b_t_settle 25 = .ok (.getfield 22, 3) := by decide +kernel
theorem d_t_settle_28 : decode b_t_settle 28 = .ok (.iload_n 1, 1) := by decide +kernel
theorem d_t_settle_29 : decode b_t_settle 29 = .ok (.iaload, 1) := by decide +kernel
theorem d_t_settle_30 : decode b_t_settle 30 = .ok (.iconst (-1), 1) := by decide +kernel
theorem d_t_settle_31 : decode b_t_settle 31 = .ok (.if_icmp .eq 4, 3) := by decide +kernel
theorem d_t_settle_34 : decode b_t_settle 34 = .ok (.return_, 1) := by decide +kernel
theorem d_t_settle_35 : decode b_t_settle 35 = .ok (.iconst 0, 1) := by decide +kernel
theorem d_t_settle_36 : decode b_t_settle 36 = .ok (.istore_n 2, 1) := by decide +kernel
theorem d_t_settle_37 : decode b_t_settle 37 = .ok (.aload_n 0, 1) := by decide +kernel
theorem d_t_settle_38 : decode b_t_settle 38 = .ok (.iload_n 2, 1) := by decide +kernel
theorem d_t_settle_39 : decode b_t_settle 39 = .ok (.aload_n 0, 1) := by decide +kernel
theorem d_t_settle_40 : decode b_t_settle 40 = .ok (.getfield 9, 3) := by decide +kernel
theorem d_t_settle_43 : decode b_t_settle 43 = .ok (.iload_n 1, 1) := by decide +kernel
theorem d_t_settle_44 : decode b_t_settle 44 = .ok (.iaload, 1) := by decide +kernel
theorem d_t_settle_45 : decode b_t_settle 45 = .ok (.invokevirtual 65, 3) := by decide +kernel
theorem d_t_settle_48 : decode b_t_settle 48 = .ok (.iload_n 1, 1) := by decide +kernel
theorem d_t_settle_49 : decode b_t_settle 49 = .ok (.if_icmp .eq 18, 3) := by decide +kernel
theorem d_t_settle_52 : decode b_t_settle 52 = .ok (.aload_n 0, 1) := by decide +kernel
theorem d_t_settle_53 : decode b_t_settle 53 = .ok (.iload_n 2, 1) := by decide +kernel
theorem d_t_settle_54 : decode b_t_settle 54 = .ok (.aload_n 0, 1) := by decide +kernel
theorem d_t_settle_55 : decode b_t_settle 55 = .ok (.getfield 9, 3) := by decide +kernel
theorem d_t_settle_58 : decode b_t_settle 58 = .ok (.iload_n 1, 1) := by decide +kernel
theorem d_t_settle_59 : decode b_t_settle 59 = .ok (.iaload, 1) := by decide +kernel
theorem d_t_settle_60 : decode b_t_settle 60 = .ok (.invokevirtual 65, 3) := by decide +kernel
theorem d_t_settle_63 : decode b_t_settle 63 = .ok (.istore_n 2, 1) := by decide +kernel
theorem d_t_settle_64 : decode b_t_settle 64 = .ok (.goto (-27), 3) := by decide +kernel
theorem d_t_settle_67 : decode b_t_settle 67 = .ok (.aload_n 0, 1) := by decide +kernel
theorem d_t_settle_68 : decode b_t_settle 68 = .ok (.iload_n 2, 1) := by decide +kernel
theorem d_t_settle_69 : decode b_t_settle 69 = .ok (.aload_n 0, 1) := by decide +kernel
theorem d_t_settle_70 : decode b_t_settle 70 = .ok (.getfield 19, 3) := by decide +kernel
theorem d_t_settle_73 : decode b_t_settle 73 = .ok (.iload_n 1, 1) := by decide +kernel
theorem d_t_settle_74 : decode b_t_settle 74 = .ok (.iaload, 1) := by decide +kernel
theorem d_t_settle_75 : decode b_t_settle 75 = .ok (.iconst (-1), 1) := by decide +kernel
theorem d_t_settle_76 : decode b_t_settle 76 = .ok (.if_icmp .eq 12, 3) := by decide +kernel
theorem d_t_settle_79 : decode b_t_settle 79 = .ok (.aload_n 0, 1) := by decide +kernel
theorem d_t_settle_80 : decode b_t_settle 80 = .ok (.getfield 19, 3) := by decide +kernel
theorem d_t_settle_83 : decode b_t_settle 83 = .ok (.iload_n 1, 1) := by decide +kernel
theorem d_t_settle_84 : decode b_t_settle 84 = .ok (.iaload, 1) := by decide +kernel
theorem d_t_settle_85 : decode b_t_settle 85 = .ok (.goto 9, 3) := by decide +kernel
theorem d_t_settle_88 : decode b_t_settle 88 = .ok (.aload_n 0, 1) := by decide +kernel
theorem d_t_settle_89 : decode b_t_settle 89 = .ok (.getfield 22, 3) := by decide +kernel
theorem d_t_settle_92 : decode b_t_settle 92 = .ok (.iload_n 1, 1) := by decide +kernel
theorem d_t_settle_93 : decode b_t_settle 93 = .ok (.iaload, 1) := by decide +kernel
theorem d_t_settle_94 : decode b_t_settle 94 = .ok (.aload_n 0, 1) := by decide +kernel
theorem d_t_settle_95 : decode b_t_settle 95 = .ok (.getfield 9, 3) := by decide +kernel
theorem d_t_settle_98 : decode b_t_settle 98 = .ok (.iload_n 1, 1) := by decide +kernel
theorem d_t_settle_99 : decode b_t_settle 99 = .ok (.iaload, 1) := by decide +kernel
theorem d_t_settle_100 : decode b_t_settle 100 = .ok (.invokevirtual 81, 3) := by decide +kernel
theorem d_t_settle_103 : decode b_t_settle 103 = .ok (.aload_n 0, 1) := by decide +kernel
theorem d_t_settle_104 : decode b_t_settle 104 = .ok (.iload_n 1, 1) := by decide +kernel
theorem d_t_settle_105 : decode b_t_settle 105 = .ok (.invokevirtual 88, 3) := by decide +kernel
theorem d_t_settle_108 : decode b_t_settle 108 = .ok (.aload_n 0, 1) := by decide +kernel
theorem d_t_settle_109 : decode b_t_settle 109 = .ok (.iload_n 2, 1) := by decide +kernel
theorem d_t_settle_110 : decode b_t_settle 110 = .ok (.invokevirtual 84, 3) := by decide +kernel
theorem d_t_settle_113 : decode b_t_settle 113 = .ok (.return_, 1) := by decide +kernel
set_option maxHeartbeats 4000000 in
set_option maxRecDepth 100000 in
theorem wl_t_settle_37 {p : Program} {l : Launch} {e : Env} {s : State} {m : MethodId} {args : Array Value} {below : List Frame} {meth : Method} {c : Code} {D : va_G} {a : Nat → Nat} {cA : ClassId} {R : Room} {H : Heap} {locs : List Loc} {cells slots : Nat} {Q : State → Prop} {S : TS} {x1 : Int32} {y : Int32} (E : CallFix p m c b_t_settle 3 s args gT R_T) (hK : va_K D classes [(cA, .int)] s) (hP : va_P D classes (wT a cA S) H) (hfit : cells + 0 ≤ R.cells ∧ slots + 0 ≤ R.slots) (hR : 2 ≤ R.frames ∧ 80 ≤ R.locals) : ∀ (k : Nat) (x2 : Int32), L_t_settle_37 S x1 k x2 = some y → ∀ ls : Array Slot, lv_has ls 3 [(0, .ref (a 0)), (1, .int x1), (2, .int x2)] → (∀ ls : Array Slot, lv_has ls 3 [(0, .ref (a 0)), (1, .int x1), (2, .int y)] → W p l e R s m args below meth c H locs cells slots Q (F0 m 67 ls [])) → W p l e R s m args below meth c H locs cells slots Q (F0 m 37 ls []) := by
  have hx := E.1
  have hb := E.2.1
  intro k
  induction k with
  | zero =>
    intro x2 h
    cases h
  | succ k ih =>
    intro x2 h ls hl kx
    rw [L_t_settle_37] at h
    refine lv_aload_n hx hb d_t_settle_37 rfl (lv_at hl 0 rfl) ?_
    refine lv_iload_n hx hb d_t_settle_38 rfl (lv_at hl 2 rfl) ?_
    refine lv_aload_n hx hb d_t_settle_39 rfl (lv_at hl 0 rfl) ?_
    refine tg_B E hK hP d_t_settle_40 ?_
    refine lv_iload_n hx hb d_t_settle_43 rfl (lv_at hl 1 rfl) ?_
    obtain ⟨g5, h⟩ := gd_some h
    refine ta_B E hK hP g5 d_t_settle_44 ?_
    obtain ⟨v7, e6, h⟩ := Option.bind_eq_some_iff.mp h
    refine T_callR (As := [.int x2, .int (sB S (cl x1))]) (rest := []) (r := v7) E hK hP (c_t_child l D a cA S x2 (sB S (cl x1)) v7 e6) k_t_child lk_t_65 ⟨by omega, by omega⟩ rfl hl.1 rfl (Nat.le_of_ble_eq_true rfl) d_t_settle_45 hfit ?_
    refine lv_iload_n hx hb d_t_settle_48 rfl (lv_at hl 1 rfl) ?_
    refine lv_icmp_eq (tgt := 67) hx hb d_t_settle_49 (by decide) (fun c8 => ?_) (fun c8 => ?_)
    · rw [if_pos c8] at h
      cases h
      exact kx ls (lv_sub hl [0, 1, 2] rfl)
    · rw [if_neg c8] at h
      refine lv_aload_n hx hb d_t_settle_52 rfl (lv_at hl 0 rfl) ?_
      refine lv_iload_n hx hb d_t_settle_53 rfl (lv_at hl 2 rfl) ?_
      refine lv_aload_n hx hb d_t_settle_54 rfl (lv_at hl 0 rfl) ?_
      refine tg_B E hK hP d_t_settle_55 ?_
      refine lv_iload_n hx hb d_t_settle_58 rfl (lv_at hl 1 rfl) ?_
      refine ta_B E hK hP g5 d_t_settle_59 ?_
      obtain ⟨v10, e9, h⟩ := Option.bind_eq_some_iff.mp h
      refine T_callR (As := [.int x2, .int (sB S (cl x1))]) (rest := []) (r := v10) E hK hP (c_t_child l D a cA S x2 (sB S (cl x1)) v10 e9) k_t_child lk_t_65 ⟨by omega, by omega⟩ rfl hl.1 rfl (Nat.le_of_ble_eq_true rfl) d_t_settle_60 hfit ?_
      refine lv_istore_n (lv' := [(2, .int v10), (0, .ref (a 0)), (1, .int x1)]) hx hb d_t_settle_63 rfl hl (by decide) rfl (fun ls hl => ?_)
      refine lv_goto (tgt := 37) hx hb d_t_settle_64 (by decide) ?_
      exact ih v10 h ls (lv_sub hl [1, 2, 0] rfl) kx
set_option maxHeartbeats 4000000 in
set_option maxRecDepth 100000 in
theorem c_t_settle (l : Launch) (D : va_G) (a : Nat → Nat) (cA : ClassId) : ∀ (k : Nat) (S : TS) (x1 : Int32) (S' : TS), j_t_settle k S x1 = some S' → Met l y_t_settle (Cond.code y_t_settle b_t_settle 3 (none) :: gT) (rmL (k + 2)) (mPcT D a cA S [.ref (a 0), .int x1]) (mQcT D a cA none S') 0 0 (aT a) := by
  intro k
  induction k with
  | zero =>
    intro S x1 S' h
    cases h
  | succ k ih =>
  intro S x1 S' h
  refine T_metM (by decide) (Nat.le_of_ble_eq_true rfl) ?_
  intro p e s m below meth c ls E hr hlocks hP hK hD hS hl
  have E : CallFix p m c b_t_settle 3 s _ gT R_T := E
  have hx := E.1
  have hb := E.2.1
  have hl : lv_has ls 3 [(0, .ref (a 0)), (1, .int x1)] := hl
  rw [j_t_settle] at h
  refine lv_iload_n hx hb d_t_settle_0 rfl (lv_at hl 1 rfl) ?_
  refine lv_if_eq (tgt := 34) hx hb d_t_settle_1 (by decide) (fun c1 => ?_) (fun c1 => ?_)
  · rw [if_pos c1] at h
    cases h
    exact W.vret hx hb hr (fun t ht hW => ⟨rfl, by rw [ht]; exact hP, hS.F ht⟩) hS.2.2 d_t_settle_34
  · rw [if_neg c1] at h
    refine lv_aload_n hx hb d_t_settle_4 rfl (lv_at hl 0 rfl) ?_
    refine tg_H E hK hP d_t_settle_5 ?_
    refine lv_iload_n hx hb d_t_settle_8 rfl (lv_at hl 1 rfl) ?_
    obtain ⟨g2, h⟩ := gd_some h
    refine ta_H E hK hP g2 d_t_settle_9 ?_
    refine lv_iconst (v := (-1)) hx hb d_t_settle_10 (by decide) ?_
    refine lv_icmp_ne (tgt := 34) hx hb d_t_settle_11 (by decide) (fun c3 => ?_) (fun c3 => ?_)
    · rw [if_neg c3] at h
      cases h
      exact W.vret hx hb hr (fun t ht hW => ⟨rfl, by rw [ht]; exact hP, hS.F ht⟩) hS.2.2 d_t_settle_34
    · rw [if_pos c3] at h
      refine lv_aload_n hx hb d_t_settle_14 rfl (lv_at hl 0 rfl) ?_
      refine tg_Z E hK hP d_t_settle_15 ?_
      refine lv_iload_n hx hb d_t_settle_18 rfl (lv_at hl 1 rfl) ?_
      refine ta_Z E hK hP g2 d_t_settle_19 ?_
      refine lv_iconst (v := (-1)) hx hb d_t_settle_20 (by decide) ?_
      refine lv_icmp_eq (tgt := 35) hx hb d_t_settle_21 (by decide) (fun c4 => ?_) (fun c4 => ?_)
      · rw [if_pos c4] at h
        refine lv_iconst (v := 0) hx hb d_t_settle_35 (by decide) ?_
        refine lv_istore_n (lv' := [(2, .int 0), (0, .ref (a 0)), (1, .int x1)]) hx hb d_t_settle_36 rfl hl (by decide) rfl (fun ls hl => ?_)
        obtain ⟨y11, e12, h⟩ := Option.bind_eq_some_iff.mp h
        refine wl_t_settle_37 E hK hP ⟨Nat.le_of_ble_eq_true rfl, Nat.le_of_ble_eq_true rfl⟩ ⟨by simp only [rmL]; omega, by simp only [rmL]; omega⟩ FU 0 e12 ls (lv_sub hl [1, 2, 0] rfl) (fun ls hl => ?_)
        refine lv_aload_n hx hb d_t_settle_67 rfl (lv_at hl 0 rfl) ?_
        refine lv_iload_n hx hb d_t_settle_68 rfl (lv_at hl 2 rfl) ?_
        refine lv_aload_n hx hb d_t_settle_69 rfl (lv_at hl 0 rfl) ?_
        refine tg_Z E hK hP d_t_settle_70 ?_
        refine lv_iload_n hx hb d_t_settle_73 rfl (lv_at hl 1 rfl) ?_
        refine ta_Z E hK hP g2 d_t_settle_74 ?_
        refine lv_iconst (v := (-1)) hx hb d_t_settle_75 (by decide) ?_
        refine lv_icmp_eq (tgt := 88) hx hb d_t_settle_76 (by decide) (fun _ => ?_) (fun c13 => absurd c4 c13)
        refine lv_aload_n hx hb d_t_settle_88 rfl (lv_at hl 0 rfl) ?_
        refine tg_O E hK hP d_t_settle_89 ?_
        refine lv_iload_n hx hb d_t_settle_92 rfl (lv_at hl 1 rfl) ?_
        refine ta_O E hK hP g2 d_t_settle_93 ?_
        refine lv_aload_n hx hb d_t_settle_94 rfl (lv_at hl 0 rfl) ?_
        refine tg_B E hK hP d_t_settle_95 ?_
        refine lv_iload_n hx hb d_t_settle_98 rfl (lv_at hl 1 rfl) ?_
        refine ta_B E hK hP g2 d_t_settle_99 ?_
        obtain ⟨S15, e14, h⟩ := Option.bind_eq_some_iff.mp h
        refine T_callM (As := [.int y11, .int (sO S (cl x1)), .int (sB S (cl x1))]) (rest := []) (v := none) (S' := S15) E hK hD hP hS (c_t_hang l D a cA S y11 (sO S (cl x1)) (sB S (cl x1)) S15 e14) k_t_hang lk_t_81 ⟨by simp only [rmL]; omega, by simp only [rmL]; omega⟩ rfl hl.1 rfl (Nat.le_of_ble_eq_true rfl) d_t_settle_100 ⟨Nat.le_of_ble_eq_true rfl, Nat.le_of_ble_eq_true rfl⟩ (fun H locs hP hS _ _ => ?_)
        refine W.eq (g2 := F0 m 103 ls []) rfl ?_
        refine lv_aload_n hx hb d_t_settle_103 rfl (lv_at hl 0 rfl) ?_
        refine lv_iload_n hx hb d_t_settle_104 rfl (lv_at hl 1 rfl) ?_
        obtain ⟨S17, e16, h⟩ := Option.bind_eq_some_iff.mp h
        refine T_callM (As := [.int x1]) (rest := []) (v := none) (S' := S17) E hK hD hP hS (c_t_drop l D a cA S15 x1 S17 e16) k_t_drop lk_t_88 ⟨by simp only [rmL]; omega, by simp only [rmL]; omega⟩ rfl hl.1 rfl (Nat.le_of_ble_eq_true rfl) d_t_settle_105 ⟨Nat.le_of_ble_eq_true rfl, Nat.le_of_ble_eq_true rfl⟩ (fun H locs hP hS _ _ => ?_)
        refine W.eq (g2 := F0 m 108 ls []) rfl ?_
        refine lv_aload_n hx hb d_t_settle_108 rfl (lv_at hl 0 rfl) ?_
        refine lv_iload_n hx hb d_t_settle_109 rfl (lv_at hl 2 rfl) ?_
        obtain ⟨S19, e18, h⟩ := Option.bind_eq_some_iff.mp h
        refine T_callM (As := [.int y11]) (rest := []) (v := none) (S' := S19) E hK hD hP hS (ih S17 y11 S19 e18) k_t_settle lk_t_84 ⟨by simp only [rmL]; omega, by simp only [rmL]; omega⟩ rfl hl.1 rfl (Nat.le_of_ble_eq_true rfl) d_t_settle_110 ⟨Nat.le_of_ble_eq_true rfl, Nat.le_of_ble_eq_true rfl⟩ (fun H locs hP hS _ _ => ?_)
        refine W.eq (g2 := F0 m 113 ls []) rfl ?_
        cases h
        exact W.vret hx hb hr (fun t ht hW => ⟨rfl, by rw [ht]; exact hP, hS.F ht⟩) hS.2.2 d_t_settle_113
      · rw [if_neg c4] at h
        refine lv_aload_n hx hb d_t_settle_24 rfl (lv_at hl 0 rfl) ?_
        refine tg_O E hK hP d_t_settle_25 ?_
        refine lv_iload_n hx hb d_t_settle_28 rfl (lv_at hl 1 rfl) ?_
        refine ta_O E hK hP g2 d_t_settle_29 ?_
        refine lv_iconst (v := (-1)) hx hb d_t_settle_30 (by decide) ?_
        refine lv_icmp_eq (tgt := 35) hx hb d_t_settle_31 (by decide) (fun c20 => ?_) (fun c20 => ?_)
        · rw [if_pos c20] at h
          refine lv_iconst (v := 0) hx hb d_t_settle_35 (by decide) ?_
          refine lv_istore_n (lv' := [(2, .int 0), (0, .ref (a 0)), (1, .int x1)]) hx hb d_t_settle_36 rfl hl (by decide) rfl (fun ls hl => ?_)
          obtain ⟨y21, e22, h⟩ := Option.bind_eq_some_iff.mp h
          refine wl_t_settle_37 E hK hP ⟨Nat.le_of_ble_eq_true rfl, Nat.le_of_ble_eq_true rfl⟩ ⟨by simp only [rmL]; omega, by simp only [rmL]; omega⟩ FU 0 e22 ls (lv_sub hl [1, 2, 0] rfl) (fun ls hl => ?_)
          refine lv_aload_n hx hb d_t_settle_67 rfl (lv_at hl 0 rfl) ?_
          refine lv_iload_n hx hb d_t_settle_68 rfl (lv_at hl 2 rfl) ?_
          refine lv_aload_n hx hb d_t_settle_69 rfl (lv_at hl 0 rfl) ?_
          refine tg_Z E hK hP d_t_settle_70 ?_
          refine lv_iload_n hx hb d_t_settle_73 rfl (lv_at hl 1 rfl) ?_
          refine ta_Z E hK hP g2 d_t_settle_74 ?_
          refine lv_iconst (v := (-1)) hx hb d_t_settle_75 (by decide) ?_
          refine lv_icmp_eq (tgt := 88) hx hb d_t_settle_76 (by decide) (fun c23 => absurd c23 c4) (fun _ => ?_)
          refine lv_aload_n hx hb d_t_settle_79 rfl (lv_at hl 0 rfl) ?_
          refine tg_Z E hK hP d_t_settle_80 ?_
          refine lv_iload_n hx hb d_t_settle_83 rfl (lv_at hl 1 rfl) ?_
          refine ta_Z E hK hP g2 d_t_settle_84 ?_
          refine lv_goto (tgt := 94) hx hb d_t_settle_85 (by decide) ?_
          refine lv_aload_n hx hb d_t_settle_94 rfl (lv_at hl 0 rfl) ?_
          refine tg_B E hK hP d_t_settle_95 ?_
          refine lv_iload_n hx hb d_t_settle_98 rfl (lv_at hl 1 rfl) ?_
          refine ta_B E hK hP g2 d_t_settle_99 ?_
          obtain ⟨S25, e24, h⟩ := Option.bind_eq_some_iff.mp h
          refine T_callM (As := [.int y21, .int (sZ S (cl x1)), .int (sB S (cl x1))]) (rest := []) (v := none) (S' := S25) E hK hD hP hS (c_t_hang l D a cA S y21 (sZ S (cl x1)) (sB S (cl x1)) S25 e24) k_t_hang lk_t_81 ⟨by simp only [rmL]; omega, by simp only [rmL]; omega⟩ rfl hl.1 rfl (Nat.le_of_ble_eq_true rfl) d_t_settle_100 ⟨Nat.le_of_ble_eq_true rfl, Nat.le_of_ble_eq_true rfl⟩ (fun H locs hP hS _ _ => ?_)
          refine W.eq (g2 := F0 m 103 ls []) rfl ?_
          refine lv_aload_n hx hb d_t_settle_103 rfl (lv_at hl 0 rfl) ?_
          refine lv_iload_n hx hb d_t_settle_104 rfl (lv_at hl 1 rfl) ?_
          obtain ⟨S27, e26, h⟩ := Option.bind_eq_some_iff.mp h
          refine T_callM (As := [.int x1]) (rest := []) (v := none) (S' := S27) E hK hD hP hS (c_t_drop l D a cA S25 x1 S27 e26) k_t_drop lk_t_88 ⟨by simp only [rmL]; omega, by simp only [rmL]; omega⟩ rfl hl.1 rfl (Nat.le_of_ble_eq_true rfl) d_t_settle_105 ⟨Nat.le_of_ble_eq_true rfl, Nat.le_of_ble_eq_true rfl⟩ (fun H locs hP hS _ _ => ?_)
          refine W.eq (g2 := F0 m 108 ls []) rfl ?_
          refine lv_aload_n hx hb d_t_settle_108 rfl (lv_at hl 0 rfl) ?_
          refine lv_iload_n hx hb d_t_settle_109 rfl (lv_at hl 2 rfl) ?_
          obtain ⟨S29, e28, h⟩ := Option.bind_eq_some_iff.mp h
          refine T_callM (As := [.int y21]) (rest := []) (v := none) (S' := S29) E hK hD hP hS (ih S27 y21 S29 e28) k_t_settle lk_t_84 ⟨by simp only [rmL]; omega, by simp only [rmL]; omega⟩ rfl hl.1 rfl (Nat.le_of_ble_eq_true rfl) d_t_settle_110 ⟨Nat.le_of_ble_eq_true rfl, Nat.le_of_ble_eq_true rfl⟩ (fun H locs hP hS _ _ => ?_)
          refine W.eq (g2 := F0 m 113 ls []) rfl ?_
          cases h
          exact W.vret hx hb hr (fun t ht hW => ⟨rfl, by rw [ht]; exact hP, hS.F ht⟩) hS.2.2 d_t_settle_113
        · rw [if_neg c20] at h
          cases h
          exact W.vret hx hb hr (fun t ht hW => ⟨rfl, by rw [ht]; exact hP, hS.F ht⟩) hS.2.2 d_t_settle_34
theorem d_t_remove_0 : decode b_t_remove 0 = .ok (.iload_n 1, 1) := by decide +kernel
theorem d_t_remove_1 : decode b_t_remove 1 = .ok (.iload_n 2, 1) := by decide +kernel
theorem d_t_remove_2 : decode b_t_remove 2 = .ok (.invokestatic 68, 3) := by decide +kernel
theorem d_t_remove_5 : decode b_t_remove 5 = .ok (.ifCond .ne 5, 3) := by decide +kernel
theorem d_t_remove_8 : decode b_t_remove 8 = .ok (.iconst 0, 1) := by decide +kernel
theorem d_t_remove_9 : decode b_t_remove 9 = .ok (.ireturn, 1) := by decide +kernel
theorem d_t_remove_10 : decode b_t_remove 10 = .ok (.aload_n 0, 1) := by decide +kernel
theorem d_t_remove_11 : decode b_t_remove 11 = .ok (.iload_n 1, 1) := by decide +kernel
theorem d_t_remove_12 : decode b_t_remove 12 = .ok (.iload_n 2, 1) := by decide +kernel
theorem d_t_remove_13 : decode b_t_remove 13 = .ok (.invokevirtual 71, 3) := by decide +kernel
theorem d_t_remove_16 : decode b_t_remove 16 = .ok (.istore_n 3, 1) := by decide +kernel
theorem d_t_remove_17 : decode b_t_remove 17 = .ok (.iload_n 3, 1) := by decide +kernel
theorem d_t_remove_18 : decode b_t_remove 18 = .ok (.iconst (-1), 1) := by decide +kernel
theorem d_t_remove_19 : decode b_t_remove 19 = .ok (.if_icmp .eq 13, 3) := by decide +kernel
theorem d_t_remove_22 : decode b_t_remove 22 = .ok (.aload_n 0, 1) := by decide +kernel
theorem d_t_remove_23 : decode b_t_remove 23 = .ok (.getfield 16, 3) := by decide +kernel
theorem d_t_remove_26 : decode b_t_remove 26 = .ok (.iload_n 3, 1) := by decide +kernel
theorem d_t_remove_27 : decode b_t_remove 27 = .ok (.iaload, 1) := by decide +kernel
theorem d_t_remove_28 : decode b_t_remove 28 = .ok (.iconst (-1), 1) := by decide +kernel
theorem d_t_remove_29 : decode b_t_remove 29 = .ok (.if_icmp .ne 5, 3) := by decide +kernel
theorem d_t_remove_32 : decode b_t_remove 32 = .ok (.iconst 0, 1) := by decide +kernel
theorem d_t_remove_33 : decode b_t_remove 33 = .ok (.ireturn, 1) := by decide +kernel
theorem d_t_remove_34 : decode b_t_remove 34 = .ok (.aload_n 0, 1) := by decide +kernel
theorem d_t_remove_35 : decode b_t_remove 35 = .ok (.iload_n 1, 1) := by decide +kernel
theorem d_t_remove_36 : decode b_t_remove 36 = .ok (.iload_n 2, 1) := by decide +kernel
theorem d_t_remove_37 : decode b_t_remove 37 = .ok (.iconst (-1), 1) := by decide +kernel
theorem d_t_remove_38 : decode b_t_remove 38 = .ok (.invokevirtual 78, 3) := by decide +kernel
theorem d_t_remove_41 : decode b_t_remove 41 = .ok (.aload_n 0, 1) := by decide +kernel
theorem d_t_remove_42 : decode b_t_remove 42 = .ok (.getfield 16, 3) := by decide +kernel
theorem d_t_remove_45 : decode b_t_remove 45 = .ok (.iload_n 3, 1) := by decide +kernel
theorem d_t_remove_46 : decode b_t_remove 46 = .ok (.iconst (-1), 1) := by decide +kernel
theorem d_t_remove_47 : decode b_t_remove 47 = .ok (.iastore, 1) := by decide +kernel
theorem d_t_remove_48 : decode b_t_remove 48 = .ok (.aload_n 0, 1) := by decide +kernel
theorem d_t_remove_49 : decode b_t_remove 49 = .ok (.iload_n 3, 1) := by decide +kernel
theorem d_t_remove_50 : decode b_t_remove 50 = .ok (.invokevirtual 84, 3) := by decide +kernel
theorem d_t_remove_53 : decode b_t_remove 53 = .ok (.iconst 1, 1) := by decide +kernel
theorem d_t_remove_54 : decode b_t_remove 54 = .ok (.ireturn, 1) := by decide +kernel
set_option maxHeartbeats 4000000 in
set_option maxRecDepth 100000 in
theorem c_t_remove (l : Launch) (D : va_G) (a : Nat → Nat) (cA : ClassId) (S : TS) (x1 x2 : Int32) (r : Int32) (S' : TS) (h : j_t_remove S x1 x2 = some (r, S')) : Met l y_t_remove (Cond.code y_t_remove b_t_remove 4 (some .boolean) :: gT) (rmL 43) (mPcT D a cA S [.ref (a 0), .int x1, .int x2]) (mQcT D a cA (some (.int r)) S') 0 0 (aT a) := by
  refine T_metM (by decide) (Nat.le_of_ble_eq_true rfl) ?_
  intro p e s m below meth c ls E hr hlocks hP hK hD hS hl
  have E : CallFix p m c b_t_remove 4 s _ gT R_T := E
  have hx := E.1
  have hb := E.2.1
  have hl : lv_has ls 4 [(0, .ref (a 0)), (1, .int x1), (2, .int x2)] := hl
  unfold j_t_remove at h
  refine lv_iload_n hx hb d_t_remove_0 rfl (lv_at hl 1 rfl) ?_
  refine lv_iload_n hx hb d_t_remove_1 rfl (lv_at hl 2 rfl) ?_
  obtain ⟨v2, e1, h⟩ := Option.bind_eq_some_iff.mp h
  refine S_call (As := [.int x1, .int x2]) (rest := []) (r := v2) E (c_t_isPrefix l x1 x2 v2 e1) k_t_isPrefix lk_t_68 ⟨Nat.le_of_ble_eq_true rfl, Nat.le_of_ble_eq_true rfl⟩ rfl hl.1 rfl (Nat.le_of_ble_eq_true rfl) d_t_remove_2 ⟨Nat.le_of_ble_eq_true rfl, Nat.le_of_ble_eq_true rfl⟩ ?_
  refine lv_if_ne (tgt := 10) hx hb d_t_remove_5 (by decide) (fun c3 => ?_) (fun c3 => ?_)
  · rw [if_neg c3] at h
    refine lv_aload_n hx hb d_t_remove_10 rfl (lv_at hl 0 rfl) ?_
    refine lv_iload_n hx hb d_t_remove_11 rfl (lv_at hl 1 rfl) ?_
    refine lv_iload_n hx hb d_t_remove_12 rfl (lv_at hl 2 rfl) ?_
    obtain ⟨v5, e4, h⟩ := Option.bind_eq_some_iff.mp h
    refine T_callR (As := [.int x1, .int x2]) (rest := []) (r := v5) E hK hP (c_t_find l D a cA S x1 x2 v5 e4) k_t_find lk_t_71 ⟨Nat.le_of_ble_eq_true rfl, Nat.le_of_ble_eq_true rfl⟩ rfl hl.1 rfl (Nat.le_of_ble_eq_true rfl) d_t_remove_13 ⟨Nat.le_of_ble_eq_true rfl, Nat.le_of_ble_eq_true rfl⟩ ?_
    refine lv_istore_n (lv' := [(3, .int v5), (0, .ref (a 0)), (1, .int x1), (2, .int x2)]) hx hb d_t_remove_16 rfl hl (by decide) rfl (fun ls hl => ?_)
    refine lv_iload_n hx hb d_t_remove_17 rfl (lv_at hl 0 rfl) ?_
    refine lv_iconst (v := (-1)) hx hb d_t_remove_18 (by decide) ?_
    refine lv_icmp_eq (tgt := 32) hx hb d_t_remove_19 (by decide) (fun c6 => ?_) (fun c6 => ?_)
    · rw [if_pos c6] at h
      refine lv_iconst (v := 0) hx hb d_t_remove_32 (by decide) ?_
      cases h
      exact W.zret (v := _) (ty := .boolean) hx hb hr rfl (fun t ht hW => ⟨rfl, by rw [ht]; exact hP, hS.F ht⟩) hS.2.2 d_t_remove_33
    · rw [if_neg c6] at h
      refine lv_aload_n hx hb d_t_remove_22 rfl (lv_at hl 1 rfl) ?_
      refine tg_H E hK hP d_t_remove_23 ?_
      refine lv_iload_n hx hb d_t_remove_26 rfl (lv_at hl 0 rfl) ?_
      obtain ⟨g7, h⟩ := gd_some h
      refine ta_H E hK hP g7 d_t_remove_27 ?_
      refine lv_iconst (v := (-1)) hx hb d_t_remove_28 (by decide) ?_
      refine lv_icmp_ne (tgt := 34) hx hb d_t_remove_29 (by decide) (fun c8 => ?_) (fun c8 => ?_)
      · rw [if_neg c8] at h
        refine lv_aload_n hx hb d_t_remove_34 rfl (lv_at hl 1 rfl) ?_
        refine lv_iload_n hx hb d_t_remove_35 rfl (lv_at hl 2 rfl) ?_
        refine lv_iload_n hx hb d_t_remove_36 rfl (lv_at hl 3 rfl) ?_
        refine lv_iconst (v := (-1)) hx hb d_t_remove_37 (by decide) ?_
        obtain ⟨S10, e9, h⟩ := Option.bind_eq_some_iff.mp h
        refine T_callM (As := [.int x1, .int x2, .int ((-1))]) (rest := []) (v := none) (S' := S10) E hK hD hP hS (c_t_tell l D a cA S x1 x2 ((-1)) S10 e9) k_t_tell lk_t_78 ⟨Nat.le_of_ble_eq_true rfl, Nat.le_of_ble_eq_true rfl⟩ rfl hl.1 rfl (Nat.le_of_ble_eq_true rfl) d_t_remove_38 ⟨Nat.le_of_ble_eq_true rfl, Nat.le_of_ble_eq_true rfl⟩ (fun H locs hP hS _ _ => ?_)
        refine W.eq (g2 := F0 m 41 ls []) rfl ?_
        refine lv_aload_n hx hb d_t_remove_41 rfl (lv_at hl 1 rfl) ?_
        refine tg_H E hK hP d_t_remove_42 ?_
        refine lv_iload_n hx hb d_t_remove_45 rfl (lv_at hl 0 rfl) ?_
        refine lv_iconst (v := (-1)) hx hb d_t_remove_46 (by decide) ?_
        refine ts_H E hK hD hP hS g7 d_t_remove_47 (fun H locs hP hS => ?_)
        refine lv_aload_n hx hb d_t_remove_48 rfl (lv_at hl 1 rfl) ?_
        refine lv_iload_n hx hb d_t_remove_49 rfl (lv_at hl 0 rfl) ?_
        obtain ⟨S12, e11, h⟩ := Option.bind_eq_some_iff.mp h
        refine T_callM (As := [.int v5]) (rest := []) (v := none) (S' := S12) E hK hD hP hS (c_t_settle l D a cA 40 (uH S10 (cl v5) ((-1))) v5 S12 e11) k_t_settle lk_t_84 ⟨Nat.le_of_ble_eq_true rfl, Nat.le_of_ble_eq_true rfl⟩ rfl hl.1 rfl (Nat.le_of_ble_eq_true rfl) d_t_remove_50 ⟨Nat.le_of_ble_eq_true rfl, Nat.le_of_ble_eq_true rfl⟩ (fun H locs hP hS _ _ => ?_)
        refine W.eq (g2 := F0 m 53 ls []) rfl ?_
        refine lv_iconst (v := 1) hx hb d_t_remove_53 (by decide) ?_
        cases h
        exact W.zret (v := _) (ty := .boolean) hx hb hr rfl (fun t ht hW => ⟨rfl, by rw [ht]; exact hP, hS.F ht⟩) hS.2.2 d_t_remove_54
      · rw [if_pos c8] at h
        refine lv_iconst (v := 0) hx hb d_t_remove_32 (by decide) ?_
        cases h
        exact W.zret (v := _) (ty := .boolean) hx hb hr rfl (fun t ht hW => ⟨rfl, by rw [ht]; exact hP, hS.F ht⟩) hS.2.2 d_t_remove_33
  · rw [if_pos c3] at h
    refine lv_iconst (v := 0) hx hb d_t_remove_8 (by decide) ?_
    cases h
    exact W.zret (v := _) (ty := .boolean) hx hb hr rfl (fun t ht hW => ⟨rfl, by rw [ht]; exact hP, hS.F ht⟩) hS.2.2 d_t_remove_9
end
section
theorem d_t_match_0 : decode b_t_match 0 = .ok (.iconst (-1), 1) := by decide +kernel
theorem d_t_match_1 : decode b_t_match 1 = .ok (.istore_n 2, 1) := by decide +kernel
theorem d_t_match_2 : decode b_t_match 2 = .ok (.iconst 0, 1) := by decide +kernel
theorem d_t_match_3 : decode b_t_match 3 = .ok (.istore_n 3, 1) := by decide +kernel
theorem d_t_match_4 : decode b_t_match 4 = .ok (.iload_n 3, 1) := by decide +kernel
theorem d_t_match_5 : decode b_t_match 5 = .ok (.iconst (-1), 1) := by decide +kernel
theorem d_t_match_6 : decode b_t_match 6 = .ok (.if_icmp .eq 60, 3) := by decide +kernel
theorem d_t_match_9 : decode b_t_match 9 = .ok (.iload_n 1, 1) := by decide +kernel
theorem d_t_match_10 : decode b_t_match 10 = .ok (.aload_n 0, 1) := by decide +kernel
theorem d_t_match_11 : decode b_t_match 11 = .ok (.getfield 13, 3) := by decide +kernel
theorem d_t_match_14 : decode b_t_match 14 = .ok (.iload_n 3, 1) := by decide +kernel
theorem d_t_match_15 : decode b_t_match 15 = .ok (.iaload, 1) := by decide +kernel
theorem d_t_match_16 : decode b_t_match 16 = .ok (.invokestatic 42, 3) := by decide +kernel
theorem d_t_match_19 : decode b_t_match 19 = .ok (.iand, 1) := by decide +kernel
theorem d_t_match_20 : decode b_t_match 20 = .ok (.aload_n 0, 1) := by decide +kernel
theorem d_t_match_21 : decode b_t_match 21 = .ok (.getfield 9, 3) := by decide +kernel
theorem d_t_match_24 : decode b_t_match 24 = .ok (.iload_n 3, 1) := by decide +kernel
theorem d_t_match_25 : decode b_t_match 25 = .ok (.iaload, 1) := by decide +kernel
theorem d_t_match_26 : decode b_t_match 26 = .ok (.if_icmp .ne 40, 3) := by decide +kernel
theorem d_t_match_29 : decode b_t_match 29 = .ok (.aload_n 0, 1) := by decide +kernel
theorem d_t_match_30 : decode b_t_match 30 = .ok (.getfield 16, 3) := by decide +kernel
theorem d_t_match_33 : decode b_t_match 33 = .ok (.iload_n 3, 1) := by decide +kernel
theorem d_t_match_34 : decode b_t_match 34 = .ok (.iaload, 1) := by decide +kernel
theorem d_t_match_35 : decode b_t_match 35 = .ok (.iconst (-1), 1) := by decide +kernel
theorem d_t_match_36 : decode b_t_match 36 = .ok (.if_icmp .eq 5, 3) := by decide +kernel
theorem d_t_match_39 : decode b_t_match 39 = .ok (.iload_n 3, 1) := by decide +kernel
theorem d_t_match_40 : decode b_t_match 40 = .ok (.istore_n 2, 1) := by decide +kernel
theorem d_t_match_41 : decode b_t_match 41 = .ok (.aload_n 0, 1) := by decide +kernel
theorem d_t_match_42 : decode b_t_match 42 = .ok (.getfield 13, 3) := by decide +kernel
theorem d_t_match_45 : decode b_t_match 45 = .ok (.iload_n 3, 1) := by decide +kernel
theorem d_t_match_46 : decode b_t_match 46 = .ok (.iaload, 1) := by decide +kernel
theorem d_t_match_47 : decode b_t_match 47 = .ok (.bipush 32, 2) := by decide +kernel
theorem d_t_match_49 : decode b_t_match 49 = .ok (.if_icmp .ne 7, 3) := by decide +kernel
theorem d_t_match_52 : decode b_t_match 52 = .ok (.iconst (-1), 1) := by decide +kernel
theorem d_t_match_53 : decode b_t_match 53 = .ok (.goto 9, 3) := by decide +kernel
theorem d_t_match_56 : decode b_t_match 56 = .ok (.aload_n 0, 1) := by decide +kernel
theorem d_t_match_57 : decode b_t_match 57 = .ok (.iload_n 3, 1) := by decide +kernel
theorem d_t_match_58 : decode b_t_match 58 = .ok (.iload_n 1, 1) := by decide +kernel
theorem d_t_match_59 : decode b_t_match 59 = .ok (.invokevirtual 65, 3) := by decide +kernel
theorem d_t_match_62 : decode b_t_match 62 = .ok (.istore_n 3, 1) := by decide +kernel
theorem d_t_match_63 : decode b_t_match 63 = .ok (.goto (-59), 3) := by decide +kernel
theorem d_t_match_66 : decode b_t_match 66 = .ok (.iload_n 2, 1) := by decide +kernel
theorem d_t_match_67 : decode b_t_match 67 = .ok (.ireturn, 1) := by decide +kernel
set_option maxHeartbeats 4000000 in
set_option maxRecDepth 100000 in
theorem wl_t_match_4 {p : Program} {l : Launch} {e : Env} {s : State} {m : MethodId} {args : Array Value} {below : List Frame} {meth : Method} {c : Code} {D : va_G} {a : Nat → Nat} {cA : ClassId} {S : TS} {x1 : Int32} {r : Int32} (E : CallFix p m c b_t_match 4 s args gT R_T) (hr : meth.sig.returnType = some .int) (hlocks : meth.locks = false) (hK : va_K D classes [(cA, .int)] s) (hP : va_P D classes (wT a cA S) s.heap) : ∀ (k : Nat) (x2 x3 : Int32), L_t_match_4 S x1 k x2 x3 = some r → ∀ ls : Array Slot, lv_has ls 4 [(0, .ref (a 0)), (1, .int x1), (2, .int x2), (3, .int x3)] → W p l e (rmL 2) s m args below meth c s.heap [] 0 0 (MQ below (QcRead r) args s 0 0 (fun _ => False)) (F0 m 4 ls []) := by
  have hx := E.1
  have hb := E.2.1
  intro k
  induction k with
  | zero =>
    intro x2 x3 h
    cases h
  | succ k ih =>
    intro x2 x3 h ls hl
    rw [L_t_match_4] at h
    refine lv_iload_n hx hb d_t_match_4 rfl (lv_at hl 3 rfl) ?_
    refine lv_iconst (v := (-1)) hx hb d_t_match_5 (by decide) ?_
    refine lv_icmp_eq (tgt := 66) hx hb d_t_match_6 (by decide) (fun c1 => ?_) (fun c1 => ?_)
    · rw [if_pos c1] at h
      refine lv_iload_n hx hb d_t_match_66 rfl (lv_at hl 2 rfl) ?_
      cases h
      exact W.iret (v := _) hx hb hr (fun t ht hW => ⟨rfl, ht⟩) (fun q hq => by cases hq) d_t_match_67
    · rw [if_neg c1] at h
      refine lv_iload_n hx hb d_t_match_9 rfl (lv_at hl 1 rfl) ?_
      refine lv_aload_n hx hb d_t_match_10 rfl (lv_at hl 0 rfl) ?_
      refine tg_L E hK hP d_t_match_11 ?_
      refine lv_iload_n hx hb d_t_match_14 rfl (lv_at hl 3 rfl) ?_
      obtain ⟨g2, h⟩ := gd_some h
      refine ta_L E hK hP g2 d_t_match_15 ?_
      obtain ⟨v4, e3, h⟩ := Option.bind_eq_some_iff.mp h
      refine S_call (As := [.int (sL S (cl x3))]) (rest := [.int x1]) (r := v4) E (c_t_mask l (sL S (cl x3)) v4 e3) k_t_mask lk_t_42 ⟨Nat.le_of_ble_eq_true rfl, Nat.le_of_ble_eq_true rfl⟩ rfl hl.1 rfl (Nat.le_of_ble_eq_true rfl) d_t_match_16 ⟨Nat.le_of_ble_eq_true rfl, Nat.le_of_ble_eq_true rfl⟩ ?_
      refine lv_iand hx hb d_t_match_19 ?_
      refine lv_aload_n hx hb d_t_match_20 rfl (lv_at hl 0 rfl) ?_
      refine tg_B E hK hP d_t_match_21 ?_
      refine lv_iload_n hx hb d_t_match_24 rfl (lv_at hl 3 rfl) ?_
      refine ta_B E hK hP g2 d_t_match_25 ?_
      refine lv_icmp_ne (tgt := 66) hx hb d_t_match_26 (by decide) (fun c5 => ?_) (fun c5 => ?_)
      · rw [if_neg c5] at h
        refine lv_iload_n hx hb d_t_match_66 rfl (lv_at hl 2 rfl) ?_
        cases h
        exact W.iret (v := _) hx hb hr (fun t ht hW => ⟨rfl, ht⟩) (fun q hq => by cases hq) d_t_match_67
      · rw [if_pos c5] at h
        refine lv_aload_n hx hb d_t_match_29 rfl (lv_at hl 0 rfl) ?_
        refine tg_H E hK hP d_t_match_30 ?_
        refine lv_iload_n hx hb d_t_match_33 rfl (lv_at hl 3 rfl) ?_
        refine ta_H E hK hP g2 d_t_match_34 ?_
        refine lv_iconst (v := (-1)) hx hb d_t_match_35 (by decide) ?_
        refine lv_icmp_eq (tgt := 41) hx hb d_t_match_36 (by decide) (fun c6 => ?_) (fun c6 => ?_)
        · rw [if_pos c6] at h
          refine lv_aload_n hx hb d_t_match_41 rfl (lv_at hl 0 rfl) ?_
          refine tg_L E hK hP d_t_match_42 ?_
          refine lv_iload_n hx hb d_t_match_45 rfl (lv_at hl 3 rfl) ?_
          refine ta_L E hK hP g2 d_t_match_46 ?_
          refine lv_bipush (v := 32) hx hb d_t_match_47 (by decide) ?_
          refine lv_icmp_ne (tgt := 56) hx hb d_t_match_49 (by decide) (fun c7 => ?_) (fun c7 => ?_)
          · rw [if_neg c7] at h
            refine lv_aload_n hx hb d_t_match_56 rfl (lv_at hl 0 rfl) ?_
            refine lv_iload_n hx hb d_t_match_57 rfl (lv_at hl 3 rfl) ?_
            refine lv_iload_n hx hb d_t_match_58 rfl (lv_at hl 1 rfl) ?_
            obtain ⟨v9, e8, h⟩ := Option.bind_eq_some_iff.mp h
            refine T_callR (As := [.int x3, .int x1]) (rest := []) (r := v9) E hK hP (c_t_child l D a cA S x3 x1 v9 e8) k_t_child lk_t_65 ⟨Nat.le_of_ble_eq_true rfl, Nat.le_of_ble_eq_true rfl⟩ rfl hl.1 rfl (Nat.le_of_ble_eq_true rfl) d_t_match_59 ⟨Nat.le_of_ble_eq_true rfl, Nat.le_of_ble_eq_true rfl⟩ ?_
            refine lv_istore_n (lv' := [(3, .int v9), (0, .ref (a 0)), (1, .int x1), (2, .int x2)]) hx hb d_t_match_62 rfl hl (by decide) rfl (fun ls hl => ?_)
            refine lv_goto (tgt := 4) hx hb d_t_match_63 (by decide) ?_
            exact ih x2 v9 h ls (lv_sub hl [1, 2, 3, 0] rfl)
          · rw [if_pos c7] at h
            refine lv_iconst (v := (-1)) hx hb d_t_match_52 (by decide) ?_
            refine lv_goto (tgt := 62) hx hb d_t_match_53 (by decide) ?_
            refine lv_istore_n (lv' := [(3, .int ((-1))), (0, .ref (a 0)), (1, .int x1), (2, .int x2)]) hx hb d_t_match_62 rfl hl (by decide) rfl (fun ls hl => ?_)
            refine lv_goto (tgt := 4) hx hb d_t_match_63 (by decide) ?_
            exact ih x2 ((-1)) h ls (lv_sub hl [1, 2, 3, 0] rfl)
        · rw [if_neg c6] at h
          refine lv_iload_n hx hb d_t_match_39 rfl (lv_at hl 3 rfl) ?_
          refine lv_istore_n (lv' := [(2, .int x3), (0, .ref (a 0)), (1, .int x1), (3, .int x3)]) hx hb d_t_match_40 rfl hl (by decide) rfl (fun ls hl => ?_)
          refine lv_aload_n hx hb d_t_match_41 rfl (lv_at hl 1 rfl) ?_
          refine tg_L E hK hP d_t_match_42 ?_
          refine lv_iload_n hx hb d_t_match_45 rfl (lv_at hl 3 rfl) ?_
          refine ta_L E hK hP g2 d_t_match_46 ?_
          refine lv_bipush (v := 32) hx hb d_t_match_47 (by decide) ?_
          refine lv_icmp_ne (tgt := 56) hx hb d_t_match_49 (by decide) (fun c10 => ?_) (fun c10 => ?_)
          · rw [if_neg c10] at h
            refine lv_aload_n hx hb d_t_match_56 rfl (lv_at hl 1 rfl) ?_
            refine lv_iload_n hx hb d_t_match_57 rfl (lv_at hl 3 rfl) ?_
            refine lv_iload_n hx hb d_t_match_58 rfl (lv_at hl 2 rfl) ?_
            obtain ⟨v12, e11, h⟩ := Option.bind_eq_some_iff.mp h
            refine T_callR (As := [.int x3, .int x1]) (rest := []) (r := v12) E hK hP (c_t_child l D a cA S x3 x1 v12 e11) k_t_child lk_t_65 ⟨Nat.le_of_ble_eq_true rfl, Nat.le_of_ble_eq_true rfl⟩ rfl hl.1 rfl (Nat.le_of_ble_eq_true rfl) d_t_match_59 ⟨Nat.le_of_ble_eq_true rfl, Nat.le_of_ble_eq_true rfl⟩ ?_
            refine lv_istore_n (lv' := [(3, .int v12), (2, .int x3), (0, .ref (a 0)), (1, .int x1)]) hx hb d_t_match_62 rfl hl (by decide) rfl (fun ls hl => ?_)
            refine lv_goto (tgt := 4) hx hb d_t_match_63 (by decide) ?_
            exact ih x3 v12 h ls (lv_sub hl [2, 3, 1, 0] rfl)
          · rw [if_pos c10] at h
            refine lv_iconst (v := (-1)) hx hb d_t_match_52 (by decide) ?_
            refine lv_goto (tgt := 62) hx hb d_t_match_53 (by decide) ?_
            refine lv_istore_n (lv' := [(3, .int ((-1))), (2, .int x3), (0, .ref (a 0)), (1, .int x1)]) hx hb d_t_match_62 rfl hl (by decide) rfl (fun ls hl => ?_)
            refine lv_goto (tgt := 4) hx hb d_t_match_63 (by decide) ?_
            exact ih x3 ((-1)) h ls (lv_sub hl [2, 3, 1, 0] rfl)
set_option maxHeartbeats 4000000 in
set_option maxRecDepth 100000 in
theorem c_t_match (l : Launch) (D : va_G) (a : Nat → Nat) (cA : ClassId) (S : TS) (x1 : Int32) (r : Int32) (h : j_t_match S x1 = some r) : Met l y_t_match (Cond.code y_t_match b_t_match 4 (some .int) :: gT) (rmL 2) (rPcT D a cA S [.ref (a 0), .int x1]) (QcRead r) 0 0 (fun _ => False) := by
  refine T_metR (by decide) (Nat.le_of_ble_eq_true rfl) ?_
  intro p e s m below meth c ls E hr hlocks hP hK hl
  have E : CallFix p m c b_t_match 4 s _ gT R_T := E
  have hx := E.1
  have hb := E.2.1
  have hl : lv_has ls 4 [(0, .ref (a 0)), (1, .int x1)] := hl
  unfold j_t_match at h
  refine lv_iconst (v := (-1)) hx hb d_t_match_0 (by decide) ?_
  refine lv_istore_n (lv' := [(2, .int ((-1))), (0, .ref (a 0)), (1, .int x1)]) hx hb d_t_match_1 rfl hl (by decide) rfl (fun ls hl => ?_)
  refine lv_iconst (v := 0) hx hb d_t_match_2 (by decide) ?_
  refine lv_istore_n (lv' := [(3, .int 0), (2, .int ((-1))), (0, .ref (a 0)), (1, .int x1)]) hx hb d_t_match_3 rfl hl (by decide) rfl (fun ls hl => ?_)
  exact wl_t_match_4 E hr hlocks hK hP FU ((-1)) 0 h ls (lv_sub hl [2, 3, 1, 0] rfl)
theorem d_t_lookup_0 : decode b_t_lookup 0 = .ok (.aload_n 0, 1) := by decide +kernel
theorem d_t_lookup_1 : decode b_t_lookup 1 = .ok (.iload_n 1, 1) := by decide +kernel
theorem d_t_lookup_2 : decode b_t_lookup 2 = .ok (.invokevirtual 91, 3) := by decide +kernel
theorem d_t_lookup_5 : decode b_t_lookup 5 = .ok (.istore_n 2, 1) := by decide +kernel
theorem d_t_lookup_6 : decode b_t_lookup 6 = .ok (.iload_n 2, 1) := by decide +kernel
theorem d_t_lookup_7 : decode b_t_lookup 7 = .ok (.iconst (-1), 1) := by decide +kernel
theorem d_t_lookup_8 : decode b_t_lookup 8 = .ok (.if_icmp .ne 7, 3) := by decide +kernel
theorem d_t_lookup_11 : decode b_t_lookup 11 = .ok (.iconst (-1), 1) := by decide +kernel
theorem d_t_lookup_12 : decode b_t_lookup 12 = .ok (.goto 9, 3) := by decide +kernel
theorem d_t_lookup_15 : decode b_t_lookup 15 = .ok (.aload_n 0, 1) := by decide +kernel
theorem d_t_lookup_16 : decode b_t_lookup 16 = .ok (.getfield 16, 3) := by decide +kernel
theorem d_t_lookup_19 : decode b_t_lookup 19 = .ok (.iload_n 2, 1) := by decide +kernel
theorem d_t_lookup_20 : decode b_t_lookup 20 = .ok (.iaload, 1) := by decide +kernel
theorem d_t_lookup_21 : decode b_t_lookup 21 = .ok (.ireturn, 1) := by decide +kernel
set_option maxHeartbeats 4000000 in
set_option maxRecDepth 100000 in
theorem c_t_lookup (l : Launch) (D : va_G) (a : Nat → Nat) (cA : ClassId) (S : TS) (x1 : Int32) (r : Int32) (h : j_t_lookup S x1 = some r) : Met l y_t_lookup (Cond.code y_t_lookup b_t_lookup 3 (some .int) :: gT) (rmL 3) (rPcT D a cA S [.ref (a 0), .int x1]) (QcRead r) 0 0 (fun _ => False) := by
  refine T_metR (by decide) (Nat.le_of_ble_eq_true rfl) ?_
  intro p e s m below meth c ls E hr hlocks hP hK hl
  have E : CallFix p m c b_t_lookup 3 s _ gT R_T := E
  have hx := E.1
  have hb := E.2.1
  have hl : lv_has ls 3 [(0, .ref (a 0)), (1, .int x1)] := hl
  unfold j_t_lookup at h
  refine lv_aload_n hx hb d_t_lookup_0 rfl (lv_at hl 0 rfl) ?_
  refine lv_iload_n hx hb d_t_lookup_1 rfl (lv_at hl 1 rfl) ?_
  obtain ⟨v2, e1, h⟩ := Option.bind_eq_some_iff.mp h
  refine T_callR (As := [.int x1]) (rest := []) (r := v2) E hK hP (c_t_match l D a cA S x1 v2 e1) k_t_match lk_t_91 ⟨Nat.le_of_ble_eq_true rfl, Nat.le_of_ble_eq_true rfl⟩ rfl hl.1 rfl (Nat.le_of_ble_eq_true rfl) d_t_lookup_2 ⟨Nat.le_of_ble_eq_true rfl, Nat.le_of_ble_eq_true rfl⟩ ?_
  refine lv_istore_n (lv' := [(2, .int v2), (0, .ref (a 0)), (1, .int x1)]) hx hb d_t_lookup_5 rfl hl (by decide) rfl (fun ls hl => ?_)
  refine lv_iload_n hx hb d_t_lookup_6 rfl (lv_at hl 0 rfl) ?_
  refine lv_iconst (v := (-1)) hx hb d_t_lookup_7 (by decide) ?_
  refine lv_icmp_ne (tgt := 15) hx hb d_t_lookup_8 (by decide) (fun c3 => ?_) (fun c3 => ?_)
  · rw [if_neg c3] at h
    refine lv_aload_n hx hb d_t_lookup_15 rfl (lv_at hl 1 rfl) ?_
    refine tg_H E hK hP d_t_lookup_16 ?_
    refine lv_iload_n hx hb d_t_lookup_19 rfl (lv_at hl 0 rfl) ?_
    obtain ⟨g4, h⟩ := gd_some h
    refine ta_H E hK hP g4 d_t_lookup_20 ?_
    cases h
    exact W.iret (v := _) hx hb hr (fun t ht hW => ⟨rfl, ht⟩) (fun q hq => by cases hq) d_t_lookup_21
  · rw [if_pos c3] at h
    refine lv_iconst (v := (-1)) hx hb d_t_lookup_11 (by decide) ?_
    refine lv_goto (tgt := 21) hx hb d_t_lookup_12 (by decide) ?_
    cases h
    exact W.iret (v := _) hx hb hr (fun t ht hW => ⟨rfl, ht⟩) (fun q hq => by cases hq) d_t_lookup_21
theorem d_t_lookupLen_0 : decode b_t_lookupLen 0 = .ok (.aload_n 0, 1) := by decide +kernel
theorem d_t_lookupLen_1 : decode b_t_lookupLen 1 = .ok (.iload_n 1, 1) := by decide +kernel
theorem d_t_lookupLen_2 : decode b_t_lookupLen 2 = .ok (.invokevirtual 91, 3) := by decide +kernel
theorem d_t_lookupLen_5 : decode b_t_lookupLen 5 = .ok (.istore_n 2, 1) := by decide +kernel
theorem d_t_lookupLen_6 : decode b_t_lookupLen 6 = .ok (.iload_n 2, 1) := by decide +kernel
theorem d_t_lookupLen_7 : decode b_t_lookupLen 7 = .ok (.iconst (-1), 1) := by decide +kernel
theorem d_t_lookupLen_8 : decode b_t_lookupLen 8 = .ok (.if_icmp .ne 7, 3) := by decide +kernel
theorem d_t_lookupLen_11 : decode b_t_lookupLen 11 = .ok (.iconst (-1), 1) := by decide +kernel
theorem d_t_lookupLen_12 : decode b_t_lookupLen 12 = .ok (.goto 9, 3) := by decide +kernel
theorem d_t_lookupLen_15 : decode b_t_lookupLen 15 = .ok (.aload_n 0, 1) := by decide +kernel
theorem d_t_lookupLen_16 : decode b_t_lookupLen 16 = .ok (.getfield 13, 3) := by decide +kernel
theorem d_t_lookupLen_19 : decode b_t_lookupLen 19 = .ok (.iload_n 2, 1) := by decide +kernel
theorem d_t_lookupLen_20 : decode b_t_lookupLen 20 = .ok (.iaload, 1) := by decide +kernel
theorem d_t_lookupLen_21 : decode b_t_lookupLen 21 = .ok (.ireturn, 1) := by decide +kernel
set_option maxHeartbeats 4000000 in
set_option maxRecDepth 100000 in
theorem c_t_lookupLen (l : Launch) (D : va_G) (a : Nat → Nat) (cA : ClassId) (S : TS) (x1 : Int32) (r : Int32) (h : j_t_lookupLen S x1 = some r) : Met l y_t_lookupLen (Cond.code y_t_lookupLen b_t_lookupLen 3 (some .int) :: gT) (rmL 3) (rPcT D a cA S [.ref (a 0), .int x1]) (QcRead r) 0 0 (fun _ => False) := by
  refine T_metR (by decide) (Nat.le_of_ble_eq_true rfl) ?_
  intro p e s m below meth c ls E hr hlocks hP hK hl
  have E : CallFix p m c b_t_lookupLen 3 s _ gT R_T := E
  have hx := E.1
  have hb := E.2.1
  have hl : lv_has ls 3 [(0, .ref (a 0)), (1, .int x1)] := hl
  unfold j_t_lookupLen at h
  refine lv_aload_n hx hb d_t_lookupLen_0 rfl (lv_at hl 0 rfl) ?_
  refine lv_iload_n hx hb d_t_lookupLen_1 rfl (lv_at hl 1 rfl) ?_
  obtain ⟨v2, e1, h⟩ := Option.bind_eq_some_iff.mp h
  refine T_callR (As := [.int x1]) (rest := []) (r := v2) E hK hP (c_t_match l D a cA S x1 v2 e1) k_t_match lk_t_91 ⟨Nat.le_of_ble_eq_true rfl, Nat.le_of_ble_eq_true rfl⟩ rfl hl.1 rfl (Nat.le_of_ble_eq_true rfl) d_t_lookupLen_2 ⟨Nat.le_of_ble_eq_true rfl, Nat.le_of_ble_eq_true rfl⟩ ?_
  refine lv_istore_n (lv' := [(2, .int v2), (0, .ref (a 0)), (1, .int x1)]) hx hb d_t_lookupLen_5 rfl hl (by decide) rfl (fun ls hl => ?_)
  refine lv_iload_n hx hb d_t_lookupLen_6 rfl (lv_at hl 0 rfl) ?_
  refine lv_iconst (v := (-1)) hx hb d_t_lookupLen_7 (by decide) ?_
  refine lv_icmp_ne (tgt := 15) hx hb d_t_lookupLen_8 (by decide) (fun c3 => ?_) (fun c3 => ?_)
  · rw [if_neg c3] at h
    refine lv_aload_n hx hb d_t_lookupLen_15 rfl (lv_at hl 1 rfl) ?_
    refine tg_L E hK hP d_t_lookupLen_16 ?_
    refine lv_iload_n hx hb d_t_lookupLen_19 rfl (lv_at hl 0 rfl) ?_
    obtain ⟨g4, h⟩ := gd_some h
    refine ta_L E hK hP g4 d_t_lookupLen_20 ?_
    cases h
    exact W.iret (v := _) hx hb hr (fun t ht hW => ⟨rfl, ht⟩) (fun q hq => by cases hq) d_t_lookupLen_21
  · rw [if_pos c3] at h
    refine lv_iconst (v := (-1)) hx hb d_t_lookupLen_11 (by decide) ?_
    refine lv_goto (tgt := 21) hx hb d_t_lookupLen_12 (by decide) ?_
    cases h
    exact W.iret (v := _) hx hb hr (fun t ht hW => ⟨rfl, ht⟩) (fun q hq => by cases hq) d_t_lookupLen_21
theorem d_t_exact_0 : decode b_t_exact 0 = .ok (.iload_n 1, 1) := by decide +kernel
theorem d_t_exact_1 : decode b_t_exact 1 = .ok (.iload_n 2, 1) := by decide +kernel
theorem d_t_exact_2 : decode b_t_exact 2 = .ok (.invokestatic 68, 3) := by decide +kernel
theorem d_t_exact_5 : decode b_t_exact 5 = .ok (.ifCond .eq 12, 3) := by decide +kernel
theorem d_t_exact_8 : decode b_t_exact 8 = .ok (.aload_n 0, 1) := by decide +kernel
theorem d_t_exact_9 : decode b_t_exact 9 = .ok (.iload_n 1, 1) := by decide +kernel
theorem d_t_exact_10 : decode b_t_exact 10 = .ok (.iload_n 2, 1) := by decide +kernel
theorem d_t_exact_11 : decode b_t_exact 11 = .ok (.invokevirtual 71, 3) := by decide +kernel
theorem d_t_exact_14 : decode b_t_exact 14 = .ok (.goto 4, 3) := by decide +kernel
theorem d_t_exact_17 : decode b_t_exact 17 = .ok (.iconst (-1), 1) := by decide +kernel
theorem d_t_exact_18 : decode b_t_exact 18 = .ok (.istore_n 3, 1) := by decide +kernel
theorem d_t_exact_19 : decode b_t_exact 19 = .ok (.iload_n 3, 1) := by decide +kernel
theorem d_t_exact_20 : decode b_t_exact 20 = .ok (.iconst (-1), 1) := by decide +kernel
theorem d_t_exact_21 : decode b_t_exact 21 = .ok (.if_icmp .ne 7, 3) := by decide +kernel
theorem d_t_exact_24 : decode b_t_exact 24 = .ok (.iconst (-1), 1) := by decide +kernel
theorem d_t_exact_25 : decode b_t_exact 25 = .ok (.goto 9, 3) := by decide +kernel
theorem d_t_exact_28 : decode b_t_exact 28 = .ok (.aload_n 0, 1) := by decide +kernel
theorem d_t_exact_29 : decode b_t_exact 29 = .ok (.getfield 16, 3) := by decide +kernel
theorem d_t_exact_32 : decode b_t_exact 32 = .ok (.iload_n 3, 1) := by decide +kernel
theorem d_t_exact_33 : decode b_t_exact 33 = .ok (.iaload, 1) := by decide +kernel
theorem d_t_exact_34 : decode b_t_exact 34 = .ok (.ireturn, 1) := by decide +kernel
set_option maxHeartbeats 4000000 in
set_option maxRecDepth 100000 in
theorem c_t_exact (l : Launch) (D : va_G) (a : Nat → Nat) (cA : ClassId) (S : TS) (x1 x2 : Int32) (r : Int32) (h : j_t_exact S x1 x2 = some r) : Met l y_t_exact (Cond.code y_t_exact b_t_exact 4 (some .int) :: gT) (rmL 3) (rPcT D a cA S [.ref (a 0), .int x1, .int x2]) (QcRead r) 0 0 (fun _ => False) := by
  refine T_metR (by decide) (Nat.le_of_ble_eq_true rfl) ?_
  intro p e s m below meth c ls E hr hlocks hP hK hl
  have E : CallFix p m c b_t_exact 4 s _ gT R_T := E
  have hx := E.1
  have hb := E.2.1
  have hl : lv_has ls 4 [(0, .ref (a 0)), (1, .int x1), (2, .int x2)] := hl
  unfold j_t_exact at h
  refine lv_iload_n hx hb d_t_exact_0 rfl (lv_at hl 1 rfl) ?_
  refine lv_iload_n hx hb d_t_exact_1 rfl (lv_at hl 2 rfl) ?_
  obtain ⟨v2, e1, h⟩ := Option.bind_eq_some_iff.mp h
  refine S_call (As := [.int x1, .int x2]) (rest := []) (r := v2) E (c_t_isPrefix l x1 x2 v2 e1) k_t_isPrefix lk_t_68 ⟨Nat.le_of_ble_eq_true rfl, Nat.le_of_ble_eq_true rfl⟩ rfl hl.1 rfl (Nat.le_of_ble_eq_true rfl) d_t_exact_2 ⟨Nat.le_of_ble_eq_true rfl, Nat.le_of_ble_eq_true rfl⟩ ?_
  refine lv_if_eq (tgt := 17) hx hb d_t_exact_5 (by decide) (fun c3 => ?_) (fun c3 => ?_)
  · rw [if_pos c3] at h
    refine lv_iconst (v := (-1)) hx hb d_t_exact_17 (by decide) ?_
    refine lv_istore_n (lv' := [(3, .int ((-1))), (0, .ref (a 0)), (1, .int x1), (2, .int x2)]) hx hb d_t_exact_18 rfl hl (by decide) rfl (fun ls hl => ?_)
    refine lv_iload_n hx hb d_t_exact_19 rfl (lv_at hl 0 rfl) ?_
    refine lv_iconst (v := (-1)) hx hb d_t_exact_20 (by decide) ?_
    refine lv_icmp_ne (tgt := 28) hx hb d_t_exact_21 (by decide) (fun c4 => absurd (by decide) c4) (fun _ => ?_)
    refine lv_iconst (v := (-1)) hx hb d_t_exact_24 (by decide) ?_
    refine lv_goto (tgt := 34) hx hb d_t_exact_25 (by decide) ?_
    cases h
    exact W.iret (v := _) hx hb hr (fun t ht hW => ⟨rfl, ht⟩) (fun q hq => by cases hq) d_t_exact_34
  · rw [if_neg c3] at h
    refine lv_aload_n hx hb d_t_exact_8 rfl (lv_at hl 0 rfl) ?_
    refine lv_iload_n hx hb d_t_exact_9 rfl (lv_at hl 1 rfl) ?_
    refine lv_iload_n hx hb d_t_exact_10 rfl (lv_at hl 2 rfl) ?_
    obtain ⟨v6, e5, h⟩ := Option.bind_eq_some_iff.mp h
    refine T_callR (As := [.int x1, .int x2]) (rest := []) (r := v6) E hK hP (c_t_find l D a cA S x1 x2 v6 e5) k_t_find lk_t_71 ⟨Nat.le_of_ble_eq_true rfl, Nat.le_of_ble_eq_true rfl⟩ rfl hl.1 rfl (Nat.le_of_ble_eq_true rfl) d_t_exact_11 ⟨Nat.le_of_ble_eq_true rfl, Nat.le_of_ble_eq_true rfl⟩ ?_
    refine lv_goto (tgt := 18) hx hb d_t_exact_14 (by decide) ?_
    refine lv_istore_n (lv' := [(3, .int v6), (0, .ref (a 0)), (1, .int x1), (2, .int x2)]) hx hb d_t_exact_18 rfl hl (by decide) rfl (fun ls hl => ?_)
    refine lv_iload_n hx hb d_t_exact_19 rfl (lv_at hl 0 rfl) ?_
    refine lv_iconst (v := (-1)) hx hb d_t_exact_20 (by decide) ?_
    refine lv_icmp_ne (tgt := 28) hx hb d_t_exact_21 (by decide) (fun c7 => ?_) (fun c7 => ?_)
    · rw [if_neg c7] at h
      refine lv_aload_n hx hb d_t_exact_28 rfl (lv_at hl 1 rfl) ?_
      refine tg_H E hK hP d_t_exact_29 ?_
      refine lv_iload_n hx hb d_t_exact_32 rfl (lv_at hl 0 rfl) ?_
      obtain ⟨g8, h⟩ := gd_some h
      refine ta_H E hK hP g8 d_t_exact_33 ?_
      cases h
      exact W.iret (v := _) hx hb hr (fun t ht hW => ⟨rfl, ht⟩) (fun q hq => by cases hq) d_t_exact_34
    · rw [if_pos c7] at h
      refine lv_iconst (v := (-1)) hx hb d_t_exact_24 (by decide) ?_
      refine lv_goto (tgt := 34) hx hb d_t_exact_25 (by decide) ?_
      cases h
      exact W.iret (v := _) hx hb hr (fun t ht hW => ⟨rfl, ht⟩) (fun q hq => by cases hq) d_t_exact_34
theorem d_t_under_0 : decode b_t_under 0 = .ok (.iload_n 1, 1) := by decide +kernel
theorem d_t_under_1 : decode b_t_under 1 = .ok (.iload_n 2, 1) := by decide +kernel
theorem d_t_under_2 : decode b_t_under 2 = .ok (.invokestatic 68, 3) := by decide +kernel
theorem d_t_under_5 : decode b_t_under 5 = .ok (.ifCond .ne 5, 3) := by decide +kernel
theorem d_t_under_8 : decode b_t_under 8 = .ok (.iconst (-1), 1) := by decide +kernel
theorem d_t_under_9 : decode b_t_under 9 = .ok (.ireturn, 1) := by decide +kernel
theorem d_t_under_10 : decode b_t_under 10 = .ok (.iconst 0, 1) := by decide +kernel
theorem d_t_under_11 : decode b_t_under 11 = .ok (.istore_n 3, 1) := by decide +kernel
theorem d_t_under_12 : decode b_t_under 12 = .ok (.iload_n 3, 1) := by decide +kernel
theorem d_t_under_13 : decode b_t_under 13 = .ok (.iconst (-1), 1) := by decide +kernel
theorem d_t_under_14 : decode b_t_under 14 = .ok (.if_icmp .eq 49, 3) := by decide +kernel
theorem d_t_under_17 : decode b_t_under 17 = .ok (.aload_n 0, 1) := by decide +kernel
theorem d_t_under_18 : decode b_t_under 18 = .ok (.getfield 13, 3) := by decide +kernel
theorem d_t_under_21 : decode b_t_under 21 = .ok (.iload_n 3, 1) := by decide +kernel
theorem d_t_under_22 : decode b_t_under 22 = .ok (.iaload, 1) := by decide +kernel
theorem d_t_under_23 : decode b_t_under 23 = .ok (.iload_n 2, 1) := by decide +kernel
theorem d_t_under_24 : decode b_t_under 24 = .ok (.if_icmp .ge 39, 3) := by decide +kernel
theorem d_t_under_27 : decode b_t_under 27 = .ok (.aload_n 0, 1) := by decide +kernel
theorem d_t_under_28 : decode b_t_under 28 = .ok (.getfield 9, 3) := by decide +kernel
theorem d_t_under_31 : decode b_t_under 31 = .ok (.iload_n 3, 1) := by decide +kernel
theorem d_t_under_32 : decode b_t_under 32 = .ok (.iaload, 1) := by decide +kernel
theorem d_t_under_33 : decode b_t_under 33 = .ok (.aload_n 0, 1) := by decide +kernel
theorem d_t_under_34 : decode b_t_under 34 = .ok (.getfield 13, 3) := by decide +kernel
theorem d_t_under_37 : decode b_t_under 37 = .ok (.iload_n 3, 1) := by decide +kernel
theorem d_t_under_38 : decode b_t_under 38 = .ok (.iaload, 1) := by decide +kernel
theorem d_t_under_39 : decode b_t_under 39 = .ok (.iload_n 1, 1) := by decide +kernel
theorem d_t_under_40 : decode b_t_under 40 = .ok (.iload_n 2, 1) := by decide +kernel
theorem d_t_under_41 : decode b_t_under 41 = .ok (.invokestatic 61, 3) := by decide +kernel
theorem d_t_under_44 : decode b_t_under 44 = .ok (.aload_n 0, 1) := by decide +kernel
theorem d_t_under_45 : decode b_t_under 45 = .ok (.getfield 13, 3) := by decide +kernel
theorem d_t_under_48 : decode b_t_under 48 = .ok (.iload_n 3, 1) := by decide +kernel
theorem d_t_under_49 : decode b_t_under 49 = .ok (.iaload, 1) := by decide +kernel
theorem d_t_under_50 : decode b_t_under 50 = .ok (.if_icmp .ne 13, 3) := by decide +kernel
theorem d_t_under_53 : decode b_t_under 53 = .ok (.aload_n 0, 1) := by decide +kernel
theorem d_t_under_54 : decode b_t_under 54 = .ok (.iload_n 3, 1) := by decide +kernel
theorem d_t_under_55 : decode b_t_under 55 = .ok (.iload_n 1, 1) := by decide +kernel
theorem d_t_under_56 : decode b_t_under 56 = .ok (.invokevirtual 65, 3) := by decide +kernel
theorem d_t_under_59 : decode b_t_under 59 = .ok (.istore_n 3, 1) := by decide +kernel
theorem d_t_under_60 : decode b_t_under 60 = .ok (.goto (-48), 3) := by decide +kernel
theorem d_t_under_63 : decode b_t_under 63 = .ok (.iload_n 3, 1) := by decide +kernel
theorem d_t_under_64 : decode b_t_under 64 = .ok (.iconst (-1), 1) := by decide +kernel
theorem d_t_under_65 : decode b_t_under 65 = .ok (.if_icmp .eq 37, 3) := by decide +kernel
theorem d_t_under_68 : decode b_t_under 68 = .ok (.aload_n 0, 1) := by decide +kernel
theorem d_t_under_69 : decode b_t_under 69 = .ok (.getfield 13, 3) := by decide +kernel
theorem d_t_under_72 : decode b_t_under 72 = .ok (.iload_n 3, 1) := by decide +kernel
theorem d_t_under_73 : decode b_t_under 73 = .ok (.iaload, 1) := by decide +kernel
theorem d_t_under_74 : decode b_t_under 74 = .ok (.iload_n 2, 1) := by decide +kernel
theorem d_t_under_75 : decode b_t_under 75 = .ok (.if_icmp .lt 27, 3) := by decide +kernel
theorem d_t_under_78 : decode b_t_under 78 = .ok (.aload_n 0, 1) := by decide +kernel
theorem d_t_under_79 : decode b_t_under 79 = .ok (.getfield 9, 3) := by decide +kernel
theorem d_t_under_82 : decode b_t_under 82 = .ok (.iload_n 3, 1) := by decide +kernel
theorem d_t_under_83 : decode b_t_under 83 = .ok (.iaload, 1) := by decide +kernel
theorem d_t_under_84 : decode b_t_under 84 = .ok (.iload_n 2, 1) := by decide +kernel
theorem d_t_under_85 : decode b_t_under 85 = .ok (.invokestatic 42, 3) := by decide +kernel
theorem d_t_under_88 : decode b_t_under 88 = .ok (.iand, 1) := by decide +kernel
theorem d_t_under_89 : decode b_t_under 89 = .ok (.iload_n 1, 1) := by decide +kernel
theorem d_t_under_90 : decode b_t_under 90 = .ok (.if_icmp .ne 12, 3) := by decide +kernel
theorem d_t_under_93 : decode b_t_under 93 = .ok (.aload_n 0, 1) := by decide +kernel
theorem d_t_under_94 : decode b_t_under 94 = .ok (.getfield 25, 3) := by decide +kernel
theorem d_t_under_97 : decode b_t_under 97 = .ok (.iload_n 3, 1) := by decide +kernel
theorem d_t_under_98 : decode b_t_under 98 = .ok (.iaload, 1) := by decide +kernel
theorem d_t_under_99 : decode b_t_under 99 = .ok (.goto 4, 3) := by decide +kernel
theorem d_t_under_102 : decode b_t_under 102 = .ok (.iconst 0, 1) := by decide +kernel
theorem d_t_under_103 : decode b_t_under 103 = .ok (.ireturn, 1) := by decide +kernel
set_option maxHeartbeats 4000000 in
set_option maxRecDepth 100000 in
theorem wl_t_under_12 {p : Program} {l : Launch} {e : Env} {s : State} {m : MethodId} {args : Array Value} {below : List Frame} {meth : Method} {c : Code} {D : va_G} {a : Nat → Nat} {cA : ClassId} {R : Room} {H : Heap} {locs : List Loc} {cells slots : Nat} {Q : State → Prop} {S : TS} {x1 x2 : Int32} {y : Int32} (E : CallFix p m c b_t_under 4 s args gT R_T) (hK : va_K D classes [(cA, .int)] s) (hP : va_P D classes (wT a cA S) H) (hfit : cells + 0 ≤ R.cells ∧ slots + 0 ≤ R.slots) (hR : 2 ≤ R.frames ∧ 80 ≤ R.locals) : ∀ (k : Nat) (x3 : Int32), L_t_under_12 S x1 x2 k x3 = some y → ∀ ls : Array Slot, lv_has ls 4 [(0, .ref (a 0)), (1, .int x1), (2, .int x2), (3, .int x3)] → (∀ ls : Array Slot, lv_has ls 4 [(0, .ref (a 0)), (1, .int x1), (2, .int x2), (3, .int y)] → W p l e R s m args below meth c H locs cells slots Q (F0 m 63 ls [])) → W p l e R s m args below meth c H locs cells slots Q (F0 m 12 ls []) := by
  have hx := E.1
  have hb := E.2.1
  intro k
  induction k with
  | zero =>
    intro x3 h
    cases h
  | succ k ih =>
    intro x3 h ls hl kx
    rw [L_t_under_12] at h
    refine lv_iload_n hx hb d_t_under_12 rfl (lv_at hl 3 rfl) ?_
    refine lv_iconst (v := (-1)) hx hb d_t_under_13 (by decide) ?_
    refine lv_icmp_eq (tgt := 63) hx hb d_t_under_14 (by decide) (fun c4 => ?_) (fun c4 => ?_)
    · rw [if_pos c4] at h
      cases h
      exact kx ls (lv_sub hl [0, 1, 2, 3] rfl)
    · rw [if_neg c4] at h
      refine lv_aload_n hx hb d_t_under_17 rfl (lv_at hl 0 rfl) ?_
      refine tg_L E hK hP d_t_under_18 ?_
      refine lv_iload_n hx hb d_t_under_21 rfl (lv_at hl 3 rfl) ?_
      obtain ⟨g5, h⟩ := gd_some h
      refine ta_L E hK hP g5 d_t_under_22 ?_
      refine lv_iload_n hx hb d_t_under_23 rfl (lv_at hl 2 rfl) ?_
      refine lv_icmp_ge (tgt := 63) hx hb d_t_under_24 (by decide) (fun c6 => ?_) (fun c6 => ?_)
      · rw [if_pos c6] at h
        cases h
        exact kx ls (lv_sub hl [0, 1, 2, 3] rfl)
      · rw [if_neg c6] at h
        refine lv_aload_n hx hb d_t_under_27 rfl (lv_at hl 0 rfl) ?_
        refine tg_B E hK hP d_t_under_28 ?_
        refine lv_iload_n hx hb d_t_under_31 rfl (lv_at hl 3 rfl) ?_
        refine ta_B E hK hP g5 d_t_under_32 ?_
        refine lv_aload_n hx hb d_t_under_33 rfl (lv_at hl 0 rfl) ?_
        refine tg_L E hK hP d_t_under_34 ?_
        refine lv_iload_n hx hb d_t_under_37 rfl (lv_at hl 3 rfl) ?_
        refine ta_L E hK hP g5 d_t_under_38 ?_
        refine lv_iload_n hx hb d_t_under_39 rfl (lv_at hl 1 rfl) ?_
        refine lv_iload_n hx hb d_t_under_40 rfl (lv_at hl 2 rfl) ?_
        obtain ⟨v8, e7, h⟩ := Option.bind_eq_some_iff.mp h
        refine S_call (As := [.int (sB S (cl x3)), .int (sL S (cl x3)), .int x1, .int x2]) (rest := []) (r := v8) E (c_t_common l (sB S (cl x3)) (sL S (cl x3)) x1 x2 v8 e7) k_t_common lk_t_61 ⟨by omega, by omega⟩ rfl hl.1 rfl (Nat.le_of_ble_eq_true rfl) d_t_under_41 hfit ?_
        refine lv_aload_n hx hb d_t_under_44 rfl (lv_at hl 0 rfl) ?_
        refine tg_L E hK hP d_t_under_45 ?_
        refine lv_iload_n hx hb d_t_under_48 rfl (lv_at hl 3 rfl) ?_
        refine ta_L E hK hP g5 d_t_under_49 ?_
        refine lv_icmp_ne (tgt := 63) hx hb d_t_under_50 (by decide) (fun c9 => ?_) (fun c9 => ?_)
        · rw [if_neg c9] at h
          cases h
          exact kx ls (lv_sub hl [0, 1, 2, 3] rfl)
        · rw [if_pos c9] at h
          refine lv_aload_n hx hb d_t_under_53 rfl (lv_at hl 0 rfl) ?_
          refine lv_iload_n hx hb d_t_under_54 rfl (lv_at hl 3 rfl) ?_
          refine lv_iload_n hx hb d_t_under_55 rfl (lv_at hl 1 rfl) ?_
          obtain ⟨v11, e10, h⟩ := Option.bind_eq_some_iff.mp h
          refine T_callR (As := [.int x3, .int x1]) (rest := []) (r := v11) E hK hP (c_t_child l D a cA S x3 x1 v11 e10) k_t_child lk_t_65 ⟨by omega, by omega⟩ rfl hl.1 rfl (Nat.le_of_ble_eq_true rfl) d_t_under_56 hfit ?_
          refine lv_istore_n (lv' := [(3, .int v11), (0, .ref (a 0)), (1, .int x1), (2, .int x2)]) hx hb d_t_under_59 rfl hl (by decide) rfl (fun ls hl => ?_)
          refine lv_goto (tgt := 12) hx hb d_t_under_60 (by decide) ?_
          exact ih v11 h ls (lv_sub hl [1, 2, 3, 0] rfl) kx
set_option maxHeartbeats 4000000 in
set_option maxRecDepth 100000 in
theorem c_t_under (l : Launch) (D : va_G) (a : Nat → Nat) (cA : ClassId) (S : TS) (x1 x2 : Int32) (r : Int32) (h : j_t_under S x1 x2 = some r) : Met l y_t_under (Cond.code y_t_under b_t_under 4 (some .int) :: gT) (rmL 2) (rPcT D a cA S [.ref (a 0), .int x1, .int x2]) (QcRead r) 0 0 (fun _ => False) := by
  refine T_metR (by decide) (Nat.le_of_ble_eq_true rfl) ?_
  intro p e s m below meth c ls E hr hlocks hP hK hl
  have E : CallFix p m c b_t_under 4 s _ gT R_T := E
  have hx := E.1
  have hb := E.2.1
  have hl : lv_has ls 4 [(0, .ref (a 0)), (1, .int x1), (2, .int x2)] := hl
  unfold j_t_under at h
  refine lv_iload_n hx hb d_t_under_0 rfl (lv_at hl 1 rfl) ?_
  refine lv_iload_n hx hb d_t_under_1 rfl (lv_at hl 2 rfl) ?_
  obtain ⟨v2, e1, h⟩ := Option.bind_eq_some_iff.mp h
  refine S_call (As := [.int x1, .int x2]) (rest := []) (r := v2) E (c_t_isPrefix l x1 x2 v2 e1) k_t_isPrefix lk_t_68 ⟨Nat.le_of_ble_eq_true rfl, Nat.le_of_ble_eq_true rfl⟩ rfl hl.1 rfl (Nat.le_of_ble_eq_true rfl) d_t_under_2 ⟨Nat.le_of_ble_eq_true rfl, Nat.le_of_ble_eq_true rfl⟩ ?_
  refine lv_if_ne (tgt := 10) hx hb d_t_under_5 (by decide) (fun c3 => ?_) (fun c3 => ?_)
  · rw [if_neg c3] at h
    refine lv_iconst (v := 0) hx hb d_t_under_10 (by decide) ?_
    refine lv_istore_n (lv' := [(3, .int 0), (0, .ref (a 0)), (1, .int x1), (2, .int x2)]) hx hb d_t_under_11 rfl hl (by decide) rfl (fun ls hl => ?_)
    obtain ⟨y12, e13, h⟩ := Option.bind_eq_some_iff.mp h
    refine wl_t_under_12 E hK hP ⟨Nat.le_of_ble_eq_true rfl, Nat.le_of_ble_eq_true rfl⟩ ⟨Nat.le_of_ble_eq_true rfl, Nat.le_of_ble_eq_true rfl⟩ FU 0 e13 ls (lv_sub hl [1, 2, 3, 0] rfl) (fun ls hl => ?_)
    refine lv_iload_n hx hb d_t_under_63 rfl (lv_at hl 3 rfl) ?_
    refine lv_iconst (v := (-1)) hx hb d_t_under_64 (by decide) ?_
    refine lv_icmp_eq (tgt := 102) hx hb d_t_under_65 (by decide) (fun c14 => ?_) (fun c14 => ?_)
    · rw [if_pos c14] at h
      refine lv_iconst (v := 0) hx hb d_t_under_102 (by decide) ?_
      cases h
      exact W.iret (v := _) hx hb hr (fun t ht hW => ⟨rfl, ht⟩) (fun q hq => by cases hq) d_t_under_103
    · rw [if_neg c14] at h
      refine lv_aload_n hx hb d_t_under_68 rfl (lv_at hl 0 rfl) ?_
      refine tg_L E hK hP d_t_under_69 ?_
      refine lv_iload_n hx hb d_t_under_72 rfl (lv_at hl 3 rfl) ?_
      obtain ⟨g15, h⟩ := gd_some h
      refine ta_L E hK hP g15 d_t_under_73 ?_
      refine lv_iload_n hx hb d_t_under_74 rfl (lv_at hl 2 rfl) ?_
      refine lv_icmp_lt (tgt := 102) hx hb d_t_under_75 (by decide) (fun c16 => ?_) (fun c16 => ?_)
      · rw [if_pos c16] at h
        refine lv_iconst (v := 0) hx hb d_t_under_102 (by decide) ?_
        cases h
        exact W.iret (v := _) hx hb hr (fun t ht hW => ⟨rfl, ht⟩) (fun q hq => by cases hq) d_t_under_103
      · rw [if_neg c16] at h
        refine lv_aload_n hx hb d_t_under_78 rfl (lv_at hl 0 rfl) ?_
        refine tg_B E hK hP d_t_under_79 ?_
        refine lv_iload_n hx hb d_t_under_82 rfl (lv_at hl 3 rfl) ?_
        refine ta_B E hK hP g15 d_t_under_83 ?_
        refine lv_iload_n hx hb d_t_under_84 rfl (lv_at hl 2 rfl) ?_
        obtain ⟨v18, e17, h⟩ := Option.bind_eq_some_iff.mp h
        refine S_call (As := [.int x2]) (rest := [.int (sB S (cl y12))]) (r := v18) E (c_t_mask l x2 v18 e17) k_t_mask lk_t_42 ⟨Nat.le_of_ble_eq_true rfl, Nat.le_of_ble_eq_true rfl⟩ rfl hl.1 rfl (Nat.le_of_ble_eq_true rfl) d_t_under_85 ⟨Nat.le_of_ble_eq_true rfl, Nat.le_of_ble_eq_true rfl⟩ ?_
        refine lv_iand hx hb d_t_under_88 ?_
        refine lv_iload_n hx hb d_t_under_89 rfl (lv_at hl 1 rfl) ?_
        refine lv_icmp_ne (tgt := 102) hx hb d_t_under_90 (by decide) (fun c19 => ?_) (fun c19 => ?_)
        · rw [if_neg c19] at h
          refine lv_iconst (v := 0) hx hb d_t_under_102 (by decide) ?_
          cases h
          exact W.iret (v := _) hx hb hr (fun t ht hW => ⟨rfl, ht⟩) (fun q hq => by cases hq) d_t_under_103
        · rw [if_pos c19] at h
          refine lv_aload_n hx hb d_t_under_93 rfl (lv_at hl 0 rfl) ?_
          refine tg_W E hK hP d_t_under_94 ?_
          refine lv_iload_n hx hb d_t_under_97 rfl (lv_at hl 3 rfl) ?_
          refine ta_W E hK hP g15 d_t_under_98 ?_
          refine lv_goto (tgt := 103) hx hb d_t_under_99 (by decide) ?_
          cases h
          exact W.iret (v := _) hx hb hr (fun t ht hW => ⟨rfl, ht⟩) (fun q hq => by cases hq) d_t_under_103
  · rw [if_pos c3] at h
    refine lv_iconst (v := (-1)) hx hb d_t_under_8 (by decide) ?_
    cases h
    exact W.iret (v := _) hx hb hr (fun t ht hW => ⟨rfl, ht⟩) (fun q hq => by cases hq) d_t_under_9
theorem d_t_route_0 : decode b_t_route 0 = .ok (.iload_n 1, 1) := by decide +kernel
theorem d_t_route_1 : decode b_t_route 1 = .ok (.ifCond .lt 13, 3) := by decide +kernel
theorem d_t_route_4 : decode b_t_route 4 = .ok (.iload_n 1, 1) := by decide +kernel
theorem d_t_route_5 : decode b_t_route 5 = .ok (.aload_n 0, 1) := by decide +kernel
theorem d_t_route_6 : decode b_t_route 6 = .ok (.getfield 25, 3) := by decide +kernel
theorem d_t_route_9 : decode b_t_route 9 = .ok (.iconst 0, 1) := by decide +kernel
theorem d_t_route_10 : decode b_t_route 10 = .ok (.iaload, 1) := by decide +kernel
theorem d_t_route_11 : decode b_t_route 11 = .ok (.if_icmp .lt 5, 3) := by decide +kernel
theorem d_t_route_14 : decode b_t_route 14 = .ok (.iconst 0, 1) := by decide +kernel
theorem d_t_route_15 : decode b_t_route 15 = .ok (.ireturn, 1) := by decide +kernel
theorem d_t_route_16 : decode b_t_route 16 = .ok (.iload_n 1, 1) := by decide +kernel
theorem d_t_route_17 : decode b_t_route 17 = .ok (.istore_n 3, 1) := by decide +kernel
theorem d_t_route_18 : decode b_t_route 18 = .ok (.iconst 0, 1) := by decide +kernel
theorem d_t_route_19 : decode b_t_route 19 = .ok (.istore 4, 2) := by decide +kernel
theorem d_t_route_21 : decode b_t_route 21 = .ok (.aload_n 0, 1) := by decide +kernel
theorem d_t_route_22 : decode b_t_route 22 = .ok (.getfield 16, 3) := by decide +kernel
theorem d_t_route_25 : decode b_t_route 25 = .ok (.iload 4, 2) := by decide +kernel
theorem d_t_route_27 : decode b_t_route 27 = .ok (.iaload, 1) := by decide +kernel
theorem d_t_route_28 : decode b_t_route 28 = .ok (.iconst (-1), 1) := by decide +kernel
theorem d_t_route_29 : decode b_t_route 29 = .ok (.if_icmp .eq 7, 3) := by decide +kernel
theorem d_t_route_32 : decode b_t_route 32 = .ok (.iload_n 3, 1) := by decide +kernel
theorem d_t_route_33 : decode b_t_route 33 = .ok (.ifCond .le 96, 3) := by decide +kernel
theorem d_t_route_36 : decode b_t_route 36 = .ok (.aload_n 0, 1) := by decide +kernel
theorem d_t_route_37 : decode b_t_route 37 = .ok (.getfield 16, 3) := by decide +kernel
theorem d_t_route_40 : decode b_t_route 40 = .ok (.iload 4, 2) := by decide +kernel
theorem d_t_route_42 : decode b_t_route 42 = .ok (.iaload, 1) := by decide +kernel
theorem d_t_route_43 : decode b_t_route 43 = .ok (.iconst (-1), 1) := by decide +kernel
theorem d_t_route_44 : decode b_t_route 44 = .ok (.if_icmp .eq 6, 3) := by decide +kernel
theorem d_t_route_47 : decode b_t_route 47 = .ok (.iinc 3 (-1), 3) := by decide +kernel
theorem d_t_route_50 : decode b_t_route 50 = .ok (.aload_n 0, 1) := by decide +kernel
theorem d_t_route_51 : decode b_t_route 51 = .ok (.getfield 19, 3) := by decide +kernel
theorem d_t_route_54 : decode b_t_route 54 = .ok (.iload 4, 2) := by decide +kernel
theorem d_t_route_56 : decode b_t_route 56 = .ok (.iaload, 1) := by decide +kernel
theorem d_t_route_57 : decode b_t_route 57 = .ok (.iconst (-1), 1) := by decide +kernel
theorem d_t_route_58 : decode b_t_route 58 = .ok (.if_icmp .ne 7, 3) := by decide +kernel
theorem d_t_route_61 : decode b_t_route 61 = .ok (.iconst 0, 1) := by decide +kernel
theorem d_t_route_62 : decode b_t_route 62 = .ok (.goto 15, 3) := by decide +kernel
theorem d_t_route_65 : decode b_t_route 65 = .ok (.aload_n 0, 1) := by decide +kernel
theorem d_t_route_66 : decode b_t_route 66 = .ok (.getfield 25, 3) := by decide +kernel
theorem d_t_route_69 : decode b_t_route 69 = .ok (.aload_n 0, 1) := by decide +kernel
theorem d_t_route_70 : decode b_t_route 70 = .ok (.getfield 19, 3) := by decide +kernel
theorem d_t_route_73 : decode b_t_route 73 = .ok (.iload 4, 2) := by decide +kernel
theorem d_t_route_75 : decode b_t_route 75 = .ok (.iaload, 1) := by decide +kernel
theorem d_t_route_76 : decode b_t_route 76 = .ok (.iaload, 1) := by decide +kernel
theorem d_t_route_77 : decode b_t_route 77 = .ok (.istore 5, 2) := by decide +kernel
theorem d_t_route_79 : decode b_t_route 79 = .ok (.iload_n 3, 1) := by decide +kernel
theorem d_t_route_80 : decode b_t_route 80 = .ok (.iload 5, 2) := by decide +kernel
theorem d_t_route_82 : decode b_t_route 82 = .ok (.if_icmp .lt 7, 3) := by decide +kernel
theorem d_t_route_85 : decode b_t_route 85 = .ok (.iconst 1, 1) := by decide +kernel
theorem d_t_route_86 : decode b_t_route 86 = .ok (.goto 4, 3) := by decide +kernel
theorem d_t_route_89 : decode b_t_route 89 = .ok (.iconst 0, 1) := by decide +kernel
theorem d_t_route_90 : decode b_t_route 90 = .ok (.istore 6, 2) := by decide +kernel
theorem d_t_route_92 : decode b_t_route 92 = .ok (.iload 6, 2) := by decide +kernel
theorem d_t_route_94 : decode b_t_route 94 = .ok (.ifCond .eq 8, 3) := by decide +kernel
theorem d_t_route_97 : decode b_t_route 97 = .ok (.iload_n 3, 1) := by decide +kernel
theorem d_t_route_98 : decode b_t_route 98 = .ok (.iload 5, 2) := by decide +kernel
theorem d_t_route_100 : decode b_t_route 100 = .ok (.isub, 1) := by decide +kernel
theorem d_t_route_101 : decode b_t_route 101 = .ok (.istore_n 3, 1) := by decide +kernel
theorem d_t_route_102 : decode b_t_route 102 = .ok (.iload 6, 2) := by decide +kernel
theorem d_t_route_104 : decode b_t_route 104 = .ok (.ifCond .eq 13, 3) := by decide +kernel
theorem d_t_route_107 : decode b_t_route 107 = .ok (.aload_n 0, 1) := by decide +kernel
theorem d_t_route_108 : decode b_t_route 108 = .ok (.getfield 22, 3) := by decide +kernel
theorem d_t_route_111 : decode b_t_route 111 = .ok (.iload 4, 2) := by decide +kernel
theorem d_t_route_113 : decode b_t_route 113 = .ok (.iaload, 1) := by decide +kernel
theorem d_t_route_114 : decode b_t_route 114 = .ok (.goto 10, 3) := by decide +kernel
theorem d_t_route_117 : decode b_t_route 117 = .ok (.aload_n 0, 1) := by decide +kernel
theorem d_t_route_118 : decode b_t_route 118 = .ok (.getfield 19, 3) := by decide +kernel
theorem d_t_route_121 : decode b_t_route 121 = .ok (.iload 4, 2) := by decide +kernel
theorem d_t_route_123 : decode b_t_route 123 = .ok (.iaload, 1) := by decide +kernel
theorem d_t_route_124 : decode b_t_route 124 = .ok (.istore 4, 2) := by decide +kernel
theorem d_t_route_126 : decode b_t_route 126 = .ok (.goto (-105), 3) := by decide +kernel
theorem d_t_route_129 : decode b_t_route 129 = .ok (.iload_n 2, 1) := by decide +kernel
theorem d_t_route_130 : decode b_t_route 130 = .ok (.ifCond .ne 13, 3) := by decide +kernel
theorem d_t_route_133 : decode b_t_route 133 = .ok (.aload_n 0, 1) := by decide +kernel
theorem d_t_route_134 : decode b_t_route 134 = .ok (.getfield 9, 3) := by decide +kernel
theorem d_t_route_137 : decode b_t_route 137 = .ok (.iload 4, 2) := by decide +kernel
theorem d_t_route_139 : decode b_t_route 139 = .ok (.iaload, 1) := by decide +kernel
theorem d_t_route_140 : decode b_t_route 140 = .ok (.goto 34, 3) := by decide +kernel
theorem d_t_route_143 : decode b_t_route 143 = .ok (.iload_n 2, 1) := by decide +kernel
theorem d_t_route_144 : decode b_t_route 144 = .ok (.iconst 1, 1) := by decide +kernel
theorem d_t_route_145 : decode b_t_route 145 = .ok (.if_icmp .ne 13, 3) := by decide +kernel
theorem d_t_route_148 : decode b_t_route 148 = .ok (.aload_n 0, 1) := by decide +kernel
theorem d_t_route_149 : decode b_t_route 149 = .ok (.getfield 13, 3) := by decide +kernel
theorem d_t_route_152 : decode b_t_route 152 = .ok (.iload 4, 2) := by decide +kernel
theorem d_t_route_154 : decode b_t_route 154 = .ok (.iaload, 1) := by decide +kernel
theorem d_t_route_155 : decode b_t_route 155 = .ok (.goto 19, 3) := by decide +kernel
theorem d_t_route_158 : decode b_t_route 158 = .ok (.iload_n 2, 1) := by decide +kernel
theorem d_t_route_159 : decode b_t_route 159 = .ok (.iconst 2, 1) := by decide +kernel
theorem d_t_route_160 : decode b_t_route 160 = .ok (.if_icmp .ne 13, 3) := by decide +kernel
theorem d_t_route_163 : decode b_t_route 163 = .ok (.aload_n 0, 1) := by decide +kernel
theorem d_t_route_164 : decode b_t_route 164 = .ok (.getfield 16, 3) := by decide +kernel
theorem d_t_route_167 : decode b_t_route 167 = .ok (.iload 4, 2) := by decide +kernel
theorem d_t_route_169 : decode b_t_route 169 = .ok (.iaload, 1) := by decide +kernel
theorem d_t_route_170 : decode b_t_route 170 = .ok (.goto 4, 3) := by decide +kernel
theorem d_t_route_173 : decode b_t_route 173 = .ok (.iconst 0, 1) := by decide +kernel
theorem d_t_route_174 : decode b_t_route 174 = .ok (.ireturn, 1) := by decide +kernel
set_option maxHeartbeats 4000000 in
set_option maxRecDepth 100000 in
theorem wl_t_route_21 {p : Program} {l : Launch} {e : Env} {s : State} {m : MethodId} {args : Array Value} {below : List Frame} {meth : Method} {c : Code} {D : va_G} {a : Nat → Nat} {cA : ClassId} {R : Room} {H : Heap} {locs : List Loc} {cells slots : Nat} {Q : State → Prop} {S : TS} {x1 x2 : Int32} {y_3 y_4 : Int32} (E : CallFix p m c b_t_route 7 s args gT R_T) (hK : va_K D classes [(cA, .int)] s) (hP : va_P D classes (wT a cA S) H) : ∀ (k : Nat) (x3 x4 : Int32), L_t_route_21 S x1 x2 k x3 x4 = some (y_3, y_4) → ∀ ls : Array Slot, lv_has ls 7 [(0, .ref (a 0)), (1, .int x1), (2, .int x2), (3, .int x3), (4, .int x4)] → (∀ ls : Array Slot, lv_has ls 7 [(0, .ref (a 0)), (1, .int x1), (2, .int x2), (3, .int y_3), (4, .int y_4)] → W p l e R s m args below meth c H locs cells slots Q (F0 m 129 ls [])) → W p l e R s m args below meth c H locs cells slots Q (F0 m 21 ls []) := by
  have hx := E.1
  have hb := E.2.1
  intro k
  induction k with
  | zero =>
    intro x3 x4 h
    cases h
  | succ k ih =>
    intro x3 x4 h ls hl kx
    rw [L_t_route_21] at h
    refine lv_aload_n hx hb d_t_route_21 rfl (lv_at hl 0 rfl) ?_
    refine tg_H E hK hP d_t_route_22 ?_
    refine lv_iload hx hb d_t_route_25 (lv_at hl 4 rfl) ?_
    obtain ⟨g4, h⟩ := gd_some h
    refine ta_H E hK hP g4 d_t_route_27 ?_
    refine lv_iconst (v := (-1)) hx hb d_t_route_28 (by decide) ?_
    refine lv_icmp_eq (tgt := 36) hx hb d_t_route_29 (by decide) (fun c5 => ?_) (fun c5 => ?_)
    · rw [if_pos c5] at h
      refine lv_aload_n hx hb d_t_route_36 rfl (lv_at hl 0 rfl) ?_
      refine tg_H E hK hP d_t_route_37 ?_
      refine lv_iload hx hb d_t_route_40 (lv_at hl 4 rfl) ?_
      refine ta_H E hK hP g4 d_t_route_42 ?_
      refine lv_iconst (v := (-1)) hx hb d_t_route_43 (by decide) ?_
      refine lv_icmp_eq (tgt := 50) hx hb d_t_route_44 (by decide) (fun _ => ?_) (fun c6 => absurd c5 c6)
      refine lv_aload_n hx hb d_t_route_50 rfl (lv_at hl 0 rfl) ?_
      refine tg_Z E hK hP d_t_route_51 ?_
      refine lv_iload hx hb d_t_route_54 (lv_at hl 4 rfl) ?_
      refine ta_Z E hK hP g4 d_t_route_56 ?_
      refine lv_iconst (v := (-1)) hx hb d_t_route_57 (by decide) ?_
      refine lv_icmp_ne (tgt := 65) hx hb d_t_route_58 (by decide) (fun c7 => ?_) (fun c7 => ?_)
      · rw [if_neg c7] at h
        refine lv_aload_n hx hb d_t_route_65 rfl (lv_at hl 0 rfl) ?_
        refine tg_W E hK hP d_t_route_66 ?_
        refine lv_aload_n hx hb d_t_route_69 rfl (lv_at hl 0 rfl) ?_
        refine tg_Z E hK hP d_t_route_70 ?_
        refine lv_iload hx hb d_t_route_73 (lv_at hl 4 rfl) ?_
        refine ta_Z E hK hP g4 d_t_route_75 ?_
        obtain ⟨g8, h⟩ := gd_some h
        refine ta_W E hK hP g8 d_t_route_76 ?_
        refine lv_istore (lv' := [(5, .int (sW S (cl (sZ S (cl x4))))), (0, .ref (a 0)), (1, .int x1), (2, .int x2), (3, .int x3), (4, .int x4)]) hx hb d_t_route_77 hl (by decide) rfl (fun ls hl => ?_)
        refine lv_iload_n hx hb d_t_route_79 rfl (lv_at hl 4 rfl) ?_
        refine lv_iload hx hb d_t_route_80 (lv_at hl 0 rfl) ?_
        refine lv_icmp_lt (tgt := 89) hx hb d_t_route_82 (by decide) (fun c9 => ?_) (fun c9 => ?_)
        · rw [if_pos c9] at h
          refine lv_iconst (v := 0) hx hb d_t_route_89 (by decide) ?_
          refine lv_istore (lv' := [(6, .int 0), (5, .int (sW S (cl (sZ S (cl x4))))), (0, .ref (a 0)), (1, .int x1), (2, .int x2), (3, .int x3), (4, .int x4)]) hx hb d_t_route_90 hl (by decide) rfl (fun ls hl => ?_)
          refine lv_iload hx hb d_t_route_92 (lv_at hl 0 rfl) ?_
          refine lv_if_eq (tgt := 102) hx hb d_t_route_94 (by decide) (fun _ => ?_) (fun c10 => absurd (by decide) c10)
          refine lv_iload hx hb d_t_route_102 (lv_at hl 0 rfl) ?_
          refine lv_if_eq (tgt := 117) hx hb d_t_route_104 (by decide) (fun _ => ?_) (fun c11 => absurd (by decide) c11)
          refine lv_aload_n hx hb d_t_route_117 rfl (lv_at hl 2 rfl) ?_
          refine tg_Z E hK hP d_t_route_118 ?_
          refine lv_iload hx hb d_t_route_121 (lv_at hl 6 rfl) ?_
          refine ta_Z E hK hP g4 d_t_route_123 ?_
          refine lv_istore (lv' := [(4, .int (sZ S (cl x4))), (6, .int 0), (5, .int (sW S (cl (sZ S (cl x4))))), (0, .ref (a 0)), (1, .int x1), (2, .int x2), (3, .int x3)]) hx hb d_t_route_124 hl (by decide) rfl (fun ls hl => ?_)
          refine lv_goto (tgt := 21) hx hb d_t_route_126 (by decide) ?_
          exact ih x3 (sZ S (cl x4)) h ls (lv_sub hl [3, 4, 5, 6, 0] rfl) kx
        · rw [if_neg c9] at h
          refine lv_iconst (v := 1) hx hb d_t_route_85 (by decide) ?_
          refine lv_goto (tgt := 90) hx hb d_t_route_86 (by decide) ?_
          refine lv_istore (lv' := [(6, .int 1), (5, .int (sW S (cl (sZ S (cl x4))))), (0, .ref (a 0)), (1, .int x1), (2, .int x2), (3, .int x3), (4, .int x4)]) hx hb d_t_route_90 hl (by decide) rfl (fun ls hl => ?_)
          refine lv_iload hx hb d_t_route_92 (lv_at hl 0 rfl) ?_
          refine lv_if_eq (tgt := 102) hx hb d_t_route_94 (by decide) (fun c12 => absurd c12 (by decide)) (fun _ => ?_)
          refine lv_iload_n hx hb d_t_route_97 rfl (lv_at hl 5 rfl) ?_
          refine lv_iload hx hb d_t_route_98 (lv_at hl 1 rfl) ?_
          refine lv_isub hx hb d_t_route_100 ?_
          refine lv_istore_n (lv' := [(3, .int (x3 - (sW S (cl (sZ S (cl x4)))))), (6, .int 1), (5, .int (sW S (cl (sZ S (cl x4))))), (0, .ref (a 0)), (1, .int x1), (2, .int x2), (4, .int x4)]) hx hb d_t_route_101 rfl hl (by decide) rfl (fun ls hl => ?_)
          refine lv_iload hx hb d_t_route_102 (lv_at hl 1 rfl) ?_
          refine lv_if_eq (tgt := 117) hx hb d_t_route_104 (by decide) (fun c13 => absurd c13 (by decide)) (fun _ => ?_)
          refine lv_aload_n hx hb d_t_route_107 rfl (lv_at hl 3 rfl) ?_
          refine tg_O E hK hP d_t_route_108 ?_
          refine lv_iload hx hb d_t_route_111 (lv_at hl 6 rfl) ?_
          refine ta_O E hK hP g4 d_t_route_113 ?_
          refine lv_goto (tgt := 124) hx hb d_t_route_114 (by decide) ?_
          refine lv_istore (lv' := [(4, .int (sO S (cl x4))), (3, .int (x3 - (sW S (cl (sZ S (cl x4)))))), (6, .int 1), (5, .int (sW S (cl (sZ S (cl x4))))), (0, .ref (a 0)), (1, .int x1), (2, .int x2)]) hx hb d_t_route_124 hl (by decide) rfl (fun ls hl => ?_)
          refine lv_goto (tgt := 21) hx hb d_t_route_126 (by decide) ?_
          exact ih (x3 - (sW S (cl (sZ S (cl x4))))) (sO S (cl x4)) h ls (lv_sub hl [4, 5, 6, 1, 0] rfl) kx
      · rw [if_pos c7] at h
        refine lv_iconst (v := 0) hx hb d_t_route_61 (by decide) ?_
        refine lv_goto (tgt := 77) hx hb d_t_route_62 (by decide) ?_
        refine lv_istore (lv' := [(5, .int 0), (0, .ref (a 0)), (1, .int x1), (2, .int x2), (3, .int x3), (4, .int x4)]) hx hb d_t_route_77 hl (by decide) rfl (fun ls hl => ?_)
        refine lv_iload_n hx hb d_t_route_79 rfl (lv_at hl 4 rfl) ?_
        refine lv_iload hx hb d_t_route_80 (lv_at hl 0 rfl) ?_
        refine lv_icmp_lt (tgt := 89) hx hb d_t_route_82 (by decide) (fun c14 => ?_) (fun c14 => ?_)
        · rw [if_pos c14] at h
          refine lv_iconst (v := 0) hx hb d_t_route_89 (by decide) ?_
          refine lv_istore (lv' := [(6, .int 0), (5, .int 0), (0, .ref (a 0)), (1, .int x1), (2, .int x2), (3, .int x3), (4, .int x4)]) hx hb d_t_route_90 hl (by decide) rfl (fun ls hl => ?_)
          refine lv_iload hx hb d_t_route_92 (lv_at hl 0 rfl) ?_
          refine lv_if_eq (tgt := 102) hx hb d_t_route_94 (by decide) (fun _ => ?_) (fun c15 => absurd (by decide) c15)
          refine lv_iload hx hb d_t_route_102 (lv_at hl 0 rfl) ?_
          refine lv_if_eq (tgt := 117) hx hb d_t_route_104 (by decide) (fun _ => ?_) (fun c16 => absurd (by decide) c16)
          refine lv_aload_n hx hb d_t_route_117 rfl (lv_at hl 2 rfl) ?_
          refine tg_Z E hK hP d_t_route_118 ?_
          refine lv_iload hx hb d_t_route_121 (lv_at hl 6 rfl) ?_
          refine ta_Z E hK hP g4 d_t_route_123 ?_
          refine lv_istore (lv' := [(4, .int (sZ S (cl x4))), (6, .int 0), (5, .int 0), (0, .ref (a 0)), (1, .int x1), (2, .int x2), (3, .int x3)]) hx hb d_t_route_124 hl (by decide) rfl (fun ls hl => ?_)
          refine lv_goto (tgt := 21) hx hb d_t_route_126 (by decide) ?_
          exact ih x3 (sZ S (cl x4)) h ls (lv_sub hl [3, 4, 5, 6, 0] rfl) kx
        · rw [if_neg c14] at h
          refine lv_iconst (v := 1) hx hb d_t_route_85 (by decide) ?_
          refine lv_goto (tgt := 90) hx hb d_t_route_86 (by decide) ?_
          refine lv_istore (lv' := [(6, .int 1), (5, .int 0), (0, .ref (a 0)), (1, .int x1), (2, .int x2), (3, .int x3), (4, .int x4)]) hx hb d_t_route_90 hl (by decide) rfl (fun ls hl => ?_)
          refine lv_iload hx hb d_t_route_92 (lv_at hl 0 rfl) ?_
          refine lv_if_eq (tgt := 102) hx hb d_t_route_94 (by decide) (fun c17 => absurd c17 (by decide)) (fun _ => ?_)
          refine lv_iload_n hx hb d_t_route_97 rfl (lv_at hl 5 rfl) ?_
          refine lv_iload hx hb d_t_route_98 (lv_at hl 1 rfl) ?_
          refine lv_isub hx hb d_t_route_100 ?_
          refine lv_istore_n (lv' := [(3, .int (x3 - 0)), (6, .int 1), (5, .int 0), (0, .ref (a 0)), (1, .int x1), (2, .int x2), (4, .int x4)]) hx hb d_t_route_101 rfl hl (by decide) rfl (fun ls hl => ?_)
          refine lv_iload hx hb d_t_route_102 (lv_at hl 1 rfl) ?_
          refine lv_if_eq (tgt := 117) hx hb d_t_route_104 (by decide) (fun c18 => absurd c18 (by decide)) (fun _ => ?_)
          refine lv_aload_n hx hb d_t_route_107 rfl (lv_at hl 3 rfl) ?_
          refine tg_O E hK hP d_t_route_108 ?_
          refine lv_iload hx hb d_t_route_111 (lv_at hl 6 rfl) ?_
          refine ta_O E hK hP g4 d_t_route_113 ?_
          refine lv_goto (tgt := 124) hx hb d_t_route_114 (by decide) ?_
          refine lv_istore (lv' := [(4, .int (sO S (cl x4))), (3, .int (x3 - 0)), (6, .int 1), (5, .int 0), (0, .ref (a 0)), (1, .int x1), (2, .int x2)]) hx hb d_t_route_124 hl (by decide) rfl (fun ls hl => ?_)
          refine lv_goto (tgt := 21) hx hb d_t_route_126 (by decide) ?_
          exact ih (x3 - 0) (sO S (cl x4)) h ls (lv_sub hl [4, 5, 6, 1, 0] rfl) kx
    · rw [if_neg c5] at h
      refine lv_iload_n hx hb d_t_route_32 rfl (lv_at hl 3 rfl) ?_
      refine lv_if_le (tgt := 129) hx hb d_t_route_33 (by decide) (fun c19 => ?_) (fun c19 => ?_)
      · rw [if_pos c19] at h
        cases h
        exact kx ls (lv_sub hl [0, 1, 2, 3, 4] rfl)
      · rw [if_neg c19] at h
        refine lv_aload_n hx hb d_t_route_36 rfl (lv_at hl 0 rfl) ?_
        refine tg_H E hK hP d_t_route_37 ?_
        refine lv_iload hx hb d_t_route_40 (lv_at hl 4 rfl) ?_
        refine ta_H E hK hP g4 d_t_route_42 ?_
        refine lv_iconst (v := (-1)) hx hb d_t_route_43 (by decide) ?_
        refine lv_icmp_eq (tgt := 50) hx hb d_t_route_44 (by decide) (fun c20 => absurd c20 c5) (fun _ => ?_)
        refine lv_iinc (v := x3 + (-1)) (lv' := [(3, .int (x3 + (-1))), (0, .ref (a 0)), (1, .int x1), (2, .int x2), (4, .int x4)]) hx hb d_t_route_47 hl (k := 3) rfl rfl (by decide) rfl (fun ls hl => ?_)
        refine lv_aload_n hx hb d_t_route_50 rfl (lv_at hl 1 rfl) ?_
        refine tg_Z E hK hP d_t_route_51 ?_
        refine lv_iload hx hb d_t_route_54 (lv_at hl 4 rfl) ?_
        refine ta_Z E hK hP g4 d_t_route_56 ?_
        refine lv_iconst (v := (-1)) hx hb d_t_route_57 (by decide) ?_
        refine lv_icmp_ne (tgt := 65) hx hb d_t_route_58 (by decide) (fun c21 => ?_) (fun c21 => ?_)
        · rw [if_neg c21] at h
          refine lv_aload_n hx hb d_t_route_65 rfl (lv_at hl 1 rfl) ?_
          refine tg_W E hK hP d_t_route_66 ?_
          refine lv_aload_n hx hb d_t_route_69 rfl (lv_at hl 1 rfl) ?_
          refine tg_Z E hK hP d_t_route_70 ?_
          refine lv_iload hx hb d_t_route_73 (lv_at hl 4 rfl) ?_
          refine ta_Z E hK hP g4 d_t_route_75 ?_
          obtain ⟨g22, h⟩ := gd_some h
          refine ta_W E hK hP g22 d_t_route_76 ?_
          refine lv_istore (lv' := [(5, .int (sW S (cl (sZ S (cl x4))))), (3, .int (x3 + (-1))), (0, .ref (a 0)), (1, .int x1), (2, .int x2), (4, .int x4)]) hx hb d_t_route_77 hl (by decide) rfl (fun ls hl => ?_)
          refine lv_iload_n hx hb d_t_route_79 rfl (lv_at hl 1 rfl) ?_
          refine lv_iload hx hb d_t_route_80 (lv_at hl 0 rfl) ?_
          refine lv_icmp_lt (tgt := 89) hx hb d_t_route_82 (by decide) (fun c23 => ?_) (fun c23 => ?_)
          · rw [if_pos c23] at h
            refine lv_iconst (v := 0) hx hb d_t_route_89 (by decide) ?_
            refine lv_istore (lv' := [(6, .int 0), (5, .int (sW S (cl (sZ S (cl x4))))), (3, .int (x3 + (-1))), (0, .ref (a 0)), (1, .int x1), (2, .int x2), (4, .int x4)]) hx hb d_t_route_90 hl (by decide) rfl (fun ls hl => ?_)
            refine lv_iload hx hb d_t_route_92 (lv_at hl 0 rfl) ?_
            refine lv_if_eq (tgt := 102) hx hb d_t_route_94 (by decide) (fun _ => ?_) (fun c24 => absurd (by decide) c24)
            refine lv_iload hx hb d_t_route_102 (lv_at hl 0 rfl) ?_
            refine lv_if_eq (tgt := 117) hx hb d_t_route_104 (by decide) (fun _ => ?_) (fun c25 => absurd (by decide) c25)
            refine lv_aload_n hx hb d_t_route_117 rfl (lv_at hl 3 rfl) ?_
            refine tg_Z E hK hP d_t_route_118 ?_
            refine lv_iload hx hb d_t_route_121 (lv_at hl 6 rfl) ?_
            refine ta_Z E hK hP g4 d_t_route_123 ?_
            refine lv_istore (lv' := [(4, .int (sZ S (cl x4))), (6, .int 0), (5, .int (sW S (cl (sZ S (cl x4))))), (3, .int (x3 + (-1))), (0, .ref (a 0)), (1, .int x1), (2, .int x2)]) hx hb d_t_route_124 hl (by decide) rfl (fun ls hl => ?_)
            refine lv_goto (tgt := 21) hx hb d_t_route_126 (by decide) ?_
            exact ih (x3 + (-1)) (sZ S (cl x4)) h ls (lv_sub hl [4, 5, 6, 3, 0] rfl) kx
          · rw [if_neg c23] at h
            refine lv_iconst (v := 1) hx hb d_t_route_85 (by decide) ?_
            refine lv_goto (tgt := 90) hx hb d_t_route_86 (by decide) ?_
            refine lv_istore (lv' := [(6, .int 1), (5, .int (sW S (cl (sZ S (cl x4))))), (3, .int (x3 + (-1))), (0, .ref (a 0)), (1, .int x1), (2, .int x2), (4, .int x4)]) hx hb d_t_route_90 hl (by decide) rfl (fun ls hl => ?_)
            refine lv_iload hx hb d_t_route_92 (lv_at hl 0 rfl) ?_
            refine lv_if_eq (tgt := 102) hx hb d_t_route_94 (by decide) (fun c26 => absurd c26 (by decide)) (fun _ => ?_)
            refine lv_iload_n hx hb d_t_route_97 rfl (lv_at hl 2 rfl) ?_
            refine lv_iload hx hb d_t_route_98 (lv_at hl 1 rfl) ?_
            refine lv_isub hx hb d_t_route_100 ?_
            refine lv_istore_n (lv' := [(3, .int ((x3 + (-1)) - (sW S (cl (sZ S (cl x4)))))), (6, .int 1), (5, .int (sW S (cl (sZ S (cl x4))))), (0, .ref (a 0)), (1, .int x1), (2, .int x2), (4, .int x4)]) hx hb d_t_route_101 rfl hl (by decide) rfl (fun ls hl => ?_)
            refine lv_iload hx hb d_t_route_102 (lv_at hl 1 rfl) ?_
            refine lv_if_eq (tgt := 117) hx hb d_t_route_104 (by decide) (fun c27 => absurd c27 (by decide)) (fun _ => ?_)
            refine lv_aload_n hx hb d_t_route_107 rfl (lv_at hl 3 rfl) ?_
            refine tg_O E hK hP d_t_route_108 ?_
            refine lv_iload hx hb d_t_route_111 (lv_at hl 6 rfl) ?_
            refine ta_O E hK hP g4 d_t_route_113 ?_
            refine lv_goto (tgt := 124) hx hb d_t_route_114 (by decide) ?_
            refine lv_istore (lv' := [(4, .int (sO S (cl x4))), (3, .int ((x3 + (-1)) - (sW S (cl (sZ S (cl x4)))))), (6, .int 1), (5, .int (sW S (cl (sZ S (cl x4))))), (0, .ref (a 0)), (1, .int x1), (2, .int x2)]) hx hb d_t_route_124 hl (by decide) rfl (fun ls hl => ?_)
            refine lv_goto (tgt := 21) hx hb d_t_route_126 (by decide) ?_
            exact ih ((x3 + (-1)) - (sW S (cl (sZ S (cl x4))))) (sO S (cl x4)) h ls (lv_sub hl [4, 5, 6, 1, 0] rfl) kx
        · rw [if_pos c21] at h
          refine lv_iconst (v := 0) hx hb d_t_route_61 (by decide) ?_
          refine lv_goto (tgt := 77) hx hb d_t_route_62 (by decide) ?_
          refine lv_istore (lv' := [(5, .int 0), (3, .int (x3 + (-1))), (0, .ref (a 0)), (1, .int x1), (2, .int x2), (4, .int x4)]) hx hb d_t_route_77 hl (by decide) rfl (fun ls hl => ?_)
          refine lv_iload_n hx hb d_t_route_79 rfl (lv_at hl 1 rfl) ?_
          refine lv_iload hx hb d_t_route_80 (lv_at hl 0 rfl) ?_
          refine lv_icmp_lt (tgt := 89) hx hb d_t_route_82 (by decide) (fun c28 => ?_) (fun c28 => ?_)
          · rw [if_pos c28] at h
            refine lv_iconst (v := 0) hx hb d_t_route_89 (by decide) ?_
            refine lv_istore (lv' := [(6, .int 0), (5, .int 0), (3, .int (x3 + (-1))), (0, .ref (a 0)), (1, .int x1), (2, .int x2), (4, .int x4)]) hx hb d_t_route_90 hl (by decide) rfl (fun ls hl => ?_)
            refine lv_iload hx hb d_t_route_92 (lv_at hl 0 rfl) ?_
            refine lv_if_eq (tgt := 102) hx hb d_t_route_94 (by decide) (fun _ => ?_) (fun c29 => absurd (by decide) c29)
            refine lv_iload hx hb d_t_route_102 (lv_at hl 0 rfl) ?_
            refine lv_if_eq (tgt := 117) hx hb d_t_route_104 (by decide) (fun _ => ?_) (fun c30 => absurd (by decide) c30)
            refine lv_aload_n hx hb d_t_route_117 rfl (lv_at hl 3 rfl) ?_
            refine tg_Z E hK hP d_t_route_118 ?_
            refine lv_iload hx hb d_t_route_121 (lv_at hl 6 rfl) ?_
            refine ta_Z E hK hP g4 d_t_route_123 ?_
            refine lv_istore (lv' := [(4, .int (sZ S (cl x4))), (6, .int 0), (5, .int 0), (3, .int (x3 + (-1))), (0, .ref (a 0)), (1, .int x1), (2, .int x2)]) hx hb d_t_route_124 hl (by decide) rfl (fun ls hl => ?_)
            refine lv_goto (tgt := 21) hx hb d_t_route_126 (by decide) ?_
            exact ih (x3 + (-1)) (sZ S (cl x4)) h ls (lv_sub hl [4, 5, 6, 3, 0] rfl) kx
          · rw [if_neg c28] at h
            refine lv_iconst (v := 1) hx hb d_t_route_85 (by decide) ?_
            refine lv_goto (tgt := 90) hx hb d_t_route_86 (by decide) ?_
            refine lv_istore (lv' := [(6, .int 1), (5, .int 0), (3, .int (x3 + (-1))), (0, .ref (a 0)), (1, .int x1), (2, .int x2), (4, .int x4)]) hx hb d_t_route_90 hl (by decide) rfl (fun ls hl => ?_)
            refine lv_iload hx hb d_t_route_92 (lv_at hl 0 rfl) ?_
            refine lv_if_eq (tgt := 102) hx hb d_t_route_94 (by decide) (fun c31 => absurd c31 (by decide)) (fun _ => ?_)
            refine lv_iload_n hx hb d_t_route_97 rfl (lv_at hl 2 rfl) ?_
            refine lv_iload hx hb d_t_route_98 (lv_at hl 1 rfl) ?_
            refine lv_isub hx hb d_t_route_100 ?_
            refine lv_istore_n (lv' := [(3, .int ((x3 + (-1)) - 0)), (6, .int 1), (5, .int 0), (0, .ref (a 0)), (1, .int x1), (2, .int x2), (4, .int x4)]) hx hb d_t_route_101 rfl hl (by decide) rfl (fun ls hl => ?_)
            refine lv_iload hx hb d_t_route_102 (lv_at hl 1 rfl) ?_
            refine lv_if_eq (tgt := 117) hx hb d_t_route_104 (by decide) (fun c32 => absurd c32 (by decide)) (fun _ => ?_)
            refine lv_aload_n hx hb d_t_route_107 rfl (lv_at hl 3 rfl) ?_
            refine tg_O E hK hP d_t_route_108 ?_
            refine lv_iload hx hb d_t_route_111 (lv_at hl 6 rfl) ?_
            refine ta_O E hK hP g4 d_t_route_113 ?_
            refine lv_goto (tgt := 124) hx hb d_t_route_114 (by decide) ?_
            refine lv_istore (lv' := [(4, .int (sO S (cl x4))), (3, .int ((x3 + (-1)) - 0)), (6, .int 1), (5, .int 0), (0, .ref (a 0)), (1, .int x1), (2, .int x2)]) hx hb d_t_route_124 hl (by decide) rfl (fun ls hl => ?_)
            refine lv_goto (tgt := 21) hx hb d_t_route_126 (by decide) ?_
            exact ih ((x3 + (-1)) - 0) (sO S (cl x4)) h ls (lv_sub hl [4, 5, 6, 1, 0] rfl) kx
set_option maxHeartbeats 4000000 in
set_option maxRecDepth 100000 in
theorem c_t_route (l : Launch) (D : va_G) (a : Nat → Nat) (cA : ClassId) (S : TS) (x1 x2 : Int32) (r : Int32) (h : j_t_route S x1 x2 = some r) : Met l y_t_route (Cond.code y_t_route b_t_route 7 (some .int) :: gT) (rmL 0) (rPcT D a cA S [.ref (a 0), .int x1, .int x2]) (QcRead r) 0 0 (fun _ => False) := by
  refine T_metR (by decide) (Nat.le_of_ble_eq_true rfl) ?_
  intro p e s m below meth c ls E hr hlocks hP hK hl
  have E : CallFix p m c b_t_route 7 s _ gT R_T := E
  have hx := E.1
  have hb := E.2.1
  have hl : lv_has ls 7 [(0, .ref (a 0)), (1, .int x1), (2, .int x2)] := hl
  unfold j_t_route at h
  refine lv_iload_n hx hb d_t_route_0 rfl (lv_at hl 1 rfl) ?_
  refine lv_if_lt (tgt := 14) hx hb d_t_route_1 (by decide) (fun c1 => ?_) (fun c1 => ?_)
  · rw [if_pos c1] at h
    refine lv_iconst (v := 0) hx hb d_t_route_14 (by decide) ?_
    cases h
    exact W.iret (v := _) hx hb hr (fun t ht hW => ⟨rfl, ht⟩) (fun q hq => by cases hq) d_t_route_15
  · rw [if_neg c1] at h
    refine lv_iload_n hx hb d_t_route_4 rfl (lv_at hl 1 rfl) ?_
    refine lv_aload_n hx hb d_t_route_5 rfl (lv_at hl 0 rfl) ?_
    refine tg_W E hK hP d_t_route_6 ?_
    refine lv_iconst (v := 0) hx hb d_t_route_9 (by decide) ?_
    obtain ⟨g2, h⟩ := gd_some h
    refine ta_W E hK hP g2 d_t_route_10 ?_
    refine lv_icmp_lt (tgt := 16) hx hb d_t_route_11 (by decide) (fun c3 => ?_) (fun c3 => ?_)
    · rw [if_pos c3] at h
      refine lv_iload_n hx hb d_t_route_16 rfl (lv_at hl 1 rfl) ?_
      refine lv_istore_n (lv' := [(3, .int x1), (0, .ref (a 0)), (1, .int x1), (2, .int x2)]) hx hb d_t_route_17 rfl hl (by decide) rfl (fun ls hl => ?_)
      refine lv_iconst (v := 0) hx hb d_t_route_18 (by decide) ?_
      refine lv_istore (lv' := [(4, .int 0), (3, .int x1), (0, .ref (a 0)), (1, .int x1), (2, .int x2)]) hx hb d_t_route_19 hl (by decide) rfl (fun ls hl => ?_)
      obtain ⟨⟨y33_3, y33_4⟩, e34, h⟩ := Option.bind_eq_some_iff.mp h
      try dsimp only at h
      refine wl_t_route_21 E hK hP FU x1 0 e34 ls (lv_sub hl [2, 3, 4, 1, 0] rfl) (fun ls hl => ?_)
      refine lv_iload_n hx hb d_t_route_129 rfl (lv_at hl 2 rfl) ?_
      refine lv_if_ne (tgt := 143) hx hb d_t_route_130 (by decide) (fun c35 => ?_) (fun c35 => ?_)
      · rw [if_neg c35] at h
        refine lv_iload_n hx hb d_t_route_143 rfl (lv_at hl 2 rfl) ?_
        refine lv_iconst (v := 1) hx hb d_t_route_144 (by decide) ?_
        refine lv_icmp_ne (tgt := 158) hx hb d_t_route_145 (by decide) (fun c36 => ?_) (fun c36 => ?_)
        · rw [if_neg c36] at h
          refine lv_iload_n hx hb d_t_route_158 rfl (lv_at hl 2 rfl) ?_
          refine lv_iconst (v := 2) hx hb d_t_route_159 (by decide) ?_
          refine lv_icmp_ne (tgt := 173) hx hb d_t_route_160 (by decide) (fun c37 => ?_) (fun c37 => ?_)
          · rw [if_neg c37] at h
            refine lv_iconst (v := 0) hx hb d_t_route_173 (by decide) ?_
            cases h
            exact W.iret (v := _) hx hb hr (fun t ht hW => ⟨rfl, ht⟩) (fun q hq => by cases hq) d_t_route_174
          · rw [if_pos c37] at h
            refine lv_aload_n hx hb d_t_route_163 rfl (lv_at hl 0 rfl) ?_
            refine tg_H E hK hP d_t_route_164 ?_
            refine lv_iload hx hb d_t_route_167 (lv_at hl 4 rfl) ?_
            obtain ⟨g38, h⟩ := gd_some h
            refine ta_H E hK hP g38 d_t_route_169 ?_
            refine lv_goto (tgt := 174) hx hb d_t_route_170 (by decide) ?_
            cases h
            exact W.iret (v := _) hx hb hr (fun t ht hW => ⟨rfl, ht⟩) (fun q hq => by cases hq) d_t_route_174
        · rw [if_pos c36] at h
          refine lv_aload_n hx hb d_t_route_148 rfl (lv_at hl 0 rfl) ?_
          refine tg_L E hK hP d_t_route_149 ?_
          refine lv_iload hx hb d_t_route_152 (lv_at hl 4 rfl) ?_
          obtain ⟨g39, h⟩ := gd_some h
          refine ta_L E hK hP g39 d_t_route_154 ?_
          refine lv_goto (tgt := 174) hx hb d_t_route_155 (by decide) ?_
          cases h
          exact W.iret (v := _) hx hb hr (fun t ht hW => ⟨rfl, ht⟩) (fun q hq => by cases hq) d_t_route_174
      · rw [if_pos c35] at h
        refine lv_aload_n hx hb d_t_route_133 rfl (lv_at hl 0 rfl) ?_
        refine tg_B E hK hP d_t_route_134 ?_
        refine lv_iload hx hb d_t_route_137 (lv_at hl 4 rfl) ?_
        obtain ⟨g40, h⟩ := gd_some h
        refine ta_B E hK hP g40 d_t_route_139 ?_
        refine lv_goto (tgt := 174) hx hb d_t_route_140 (by decide) ?_
        cases h
        exact W.iret (v := _) hx hb hr (fun t ht hW => ⟨rfl, ht⟩) (fun q hq => by cases hq) d_t_route_174
    · rw [if_neg c3] at h
      refine lv_iconst (v := 0) hx hb d_t_route_14 (by decide) ?_
      cases h
      exact W.iret (v := _) hx hb hr (fun t ht hW => ⟨rfl, ht⟩) (fun q hq => by cases hq) d_t_route_15
theorem d_t_count_0 : decode b_t_count 0 = .ok (.aload_n 0, 1) := by decide +kernel
theorem d_t_count_1 : decode b_t_count 1 = .ok (.getfield 25, 3) := by decide +kernel
theorem d_t_count_4 : decode b_t_count 4 = .ok (.iconst 0, 1) := by decide +kernel
theorem d_t_count_5 : decode b_t_count 5 = .ok (.iaload, 1) := by decide +kernel
theorem d_t_count_6 : decode b_t_count 6 = .ok (.ireturn, 1) := by decide +kernel
set_option maxHeartbeats 4000000 in
set_option maxRecDepth 100000 in
theorem c_t_count (l : Launch) (D : va_G) (a : Nat → Nat) (cA : ClassId) (S : TS) (r : Int32) (h : j_t_count S = some r) : Met l y_t_count (Cond.code y_t_count b_t_count 1 (some .int) :: gT) (rmL 0) (rPcT D a cA S [.ref (a 0)]) (QcRead r) 0 0 (fun _ => False) := by
  refine T_metR (by decide) (Nat.le_of_ble_eq_true rfl) ?_
  intro p e s m below meth c ls E hr hlocks hP hK hl
  have E : CallFix p m c b_t_count 1 s _ gT R_T := E
  have hx := E.1
  have hb := E.2.1
  have hl : lv_has ls 1 [(0, .ref (a 0))] := hl
  unfold j_t_count at h
  refine lv_aload_n hx hb d_t_count_0 rfl (lv_at hl 0 rfl) ?_
  refine tg_W E hK hP d_t_count_1 ?_
  refine lv_iconst (v := 0) hx hb d_t_count_4 (by decide) ?_
  obtain ⟨g1, h⟩ := gd_some h
  refine ta_W E hK hP g1 d_t_count_5 ?_
  cases h
  exact W.iret (v := _) hx hb hr (fun t ht hW => ⟨rfl, ht⟩) (fun q hq => by cases hq) d_t_count_6
theorem d_t_nodes_0 : decode b_t_nodes 0 = .ok (.aload_n 0, 1) := by decide +kernel
theorem d_t_nodes_1 : decode b_t_nodes 1 = .ok (.getfield 35, 3) := by decide +kernel
theorem d_t_nodes_4 : decode b_t_nodes 4 = .ok (.ireturn, 1) := by decide +kernel
set_option maxHeartbeats 4000000 in
set_option maxRecDepth 100000 in
theorem c_t_nodes (l : Launch) (D : va_G) (a : Nat → Nat) (cA : ClassId) (S : TS) (r : Int32) (h : j_t_nodes S = some r) : Met l y_t_nodes (Cond.code y_t_nodes b_t_nodes 1 (some .int) :: gT) (rmL 0) (rPcT D a cA S [.ref (a 0)]) (QcRead r) 0 0 (fun _ => False) := by
  refine T_metR (by decide) (Nat.le_of_ble_eq_true rfl) ?_
  intro p e s m below meth c ls E hr hlocks hP hK hl
  have E : CallFix p m c b_t_nodes 1 s _ gT R_T := E
  have hx := E.1
  have hb := E.2.1
  have hl : lv_has ls 1 [(0, .ref (a 0))] := hl
  unfold j_t_nodes at h
  refine lv_aload_n hx hb d_t_nodes_0 rfl (lv_at hl 0 rfl) ?_
  refine tg_U E hK hP d_t_nodes_1 ?_
  cases h
  exact W.iret (v := _) hx hb hr (fun t ht hW => ⟨rfl, ht⟩) (fun q hq => by cases hq) d_t_nodes_4
theorem d_t_depth_0 : decode b_t_depth 0 = .ok (.iconst 0, 1) := by decide +kernel
theorem d_t_depth_1 : decode b_t_depth 1 = .ok (.istore_n 2, 1) := by decide +kernel
theorem d_t_depth_2 : decode b_t_depth 2 = .ok (.iconst 0, 1) := by decide +kernel
theorem d_t_depth_3 : decode b_t_depth 3 = .ok (.istore_n 3, 1) := by decide +kernel
theorem d_t_depth_4 : decode b_t_depth 4 = .ok (.iload_n 3, 1) := by decide +kernel
theorem d_t_depth_5 : decode b_t_depth 5 = .ok (.iconst (-1), 1) := by decide +kernel
theorem d_t_depth_6 : decode b_t_depth 6 = .ok (.if_icmp .eq 51, 3) := by decide +kernel
theorem d_t_depth_9 : decode b_t_depth 9 = .ok (.iload_n 1, 1) := by decide +kernel
theorem d_t_depth_10 : decode b_t_depth 10 = .ok (.aload_n 0, 1) := by decide +kernel
theorem d_t_depth_11 : decode b_t_depth 11 = .ok (.getfield 13, 3) := by decide +kernel
theorem d_t_depth_14 : decode b_t_depth 14 = .ok (.iload_n 3, 1) := by decide +kernel
theorem d_t_depth_15 : decode b_t_depth 15 = .ok (.iaload, 1) := by decide +kernel
theorem d_t_depth_16 : decode b_t_depth 16 = .ok (.invokestatic 42, 3) := by decide +kernel
theorem d_t_depth_19 : decode b_t_depth 19 = .ok (.iand, 1) := by decide +kernel
theorem d_t_depth_20 : decode b_t_depth 20 = .ok (.aload_n 0, 1) := by decide +kernel
theorem d_t_depth_21 : decode b_t_depth 21 = .ok (.getfield 9, 3) := by decide +kernel
theorem d_t_depth_24 : decode b_t_depth 24 = .ok (.iload_n 3, 1) := by decide +kernel
theorem d_t_depth_25 : decode b_t_depth 25 = .ok (.iaload, 1) := by decide +kernel
theorem d_t_depth_26 : decode b_t_depth 26 = .ok (.if_icmp .ne 31, 3) := by decide +kernel
theorem d_t_depth_29 : decode b_t_depth 29 = .ok (.iinc 2 1, 3) := by decide +kernel
theorem d_t_depth_32 : decode b_t_depth 32 = .ok (.aload_n 0, 1) := by decide +kernel
theorem d_t_depth_33 : decode b_t_depth 33 = .ok (.getfield 13, 3) := by decide +kernel
theorem d_t_depth_36 : decode b_t_depth 36 = .ok (.iload_n 3, 1) := by decide +kernel
theorem d_t_depth_37 : decode b_t_depth 37 = .ok (.iaload, 1) := by decide +kernel
theorem d_t_depth_38 : decode b_t_depth 38 = .ok (.bipush 32, 2) := by decide +kernel
theorem d_t_depth_40 : decode b_t_depth 40 = .ok (.if_icmp .ne 7, 3) := by decide +kernel
theorem d_t_depth_43 : decode b_t_depth 43 = .ok (.iconst (-1), 1) := by decide +kernel
theorem d_t_depth_44 : decode b_t_depth 44 = .ok (.goto 9, 3) := by decide +kernel
theorem d_t_depth_47 : decode b_t_depth 47 = .ok (.aload_n 0, 1) := by decide +kernel
theorem d_t_depth_48 : decode b_t_depth 48 = .ok (.iload_n 3, 1) := by decide +kernel
theorem d_t_depth_49 : decode b_t_depth 49 = .ok (.iload_n 1, 1) := by decide +kernel
theorem d_t_depth_50 : decode b_t_depth 50 = .ok (.invokevirtual 65, 3) := by decide +kernel
theorem d_t_depth_53 : decode b_t_depth 53 = .ok (.istore_n 3, 1) := by decide +kernel
theorem d_t_depth_54 : decode b_t_depth 54 = .ok (.goto (-50), 3) := by decide +kernel
theorem d_t_depth_57 : decode b_t_depth 57 = .ok (.iload_n 2, 1) := by decide +kernel
theorem d_t_depth_58 : decode b_t_depth 58 = .ok (.ireturn, 1) := by decide +kernel
set_option maxHeartbeats 4000000 in
set_option maxRecDepth 100000 in
theorem wl_t_depth_4 {p : Program} {l : Launch} {e : Env} {s : State} {m : MethodId} {args : Array Value} {below : List Frame} {meth : Method} {c : Code} {D : va_G} {a : Nat → Nat} {cA : ClassId} {S : TS} {x1 : Int32} {r : Int32} (E : CallFix p m c b_t_depth 4 s args gT R_T) (hr : meth.sig.returnType = some .int) (hlocks : meth.locks = false) (hK : va_K D classes [(cA, .int)] s) (hP : va_P D classes (wT a cA S) s.heap) : ∀ (k : Nat) (x2 x3 : Int32), L_t_depth_4 S x1 k x2 x3 = some r → ∀ ls : Array Slot, lv_has ls 4 [(0, .ref (a 0)), (1, .int x1), (2, .int x2), (3, .int x3)] → W p l e (rmL 2) s m args below meth c s.heap [] 0 0 (MQ below (QcRead r) args s 0 0 (fun _ => False)) (F0 m 4 ls []) := by
  have hx := E.1
  have hb := E.2.1
  intro k
  induction k with
  | zero =>
    intro x2 x3 h
    cases h
  | succ k ih =>
    intro x2 x3 h ls hl
    rw [L_t_depth_4] at h
    refine lv_iload_n hx hb d_t_depth_4 rfl (lv_at hl 3 rfl) ?_
    refine lv_iconst (v := (-1)) hx hb d_t_depth_5 (by decide) ?_
    refine lv_icmp_eq (tgt := 57) hx hb d_t_depth_6 (by decide) (fun c1 => ?_) (fun c1 => ?_)
    · rw [if_pos c1] at h
      refine lv_iload_n hx hb d_t_depth_57 rfl (lv_at hl 2 rfl) ?_
      cases h
      exact W.iret (v := _) hx hb hr (fun t ht hW => ⟨rfl, ht⟩) (fun q hq => by cases hq) d_t_depth_58
    · rw [if_neg c1] at h
      refine lv_iload_n hx hb d_t_depth_9 rfl (lv_at hl 1 rfl) ?_
      refine lv_aload_n hx hb d_t_depth_10 rfl (lv_at hl 0 rfl) ?_
      refine tg_L E hK hP d_t_depth_11 ?_
      refine lv_iload_n hx hb d_t_depth_14 rfl (lv_at hl 3 rfl) ?_
      obtain ⟨g2, h⟩ := gd_some h
      refine ta_L E hK hP g2 d_t_depth_15 ?_
      obtain ⟨v4, e3, h⟩ := Option.bind_eq_some_iff.mp h
      refine S_call (As := [.int (sL S (cl x3))]) (rest := [.int x1]) (r := v4) E (c_t_mask l (sL S (cl x3)) v4 e3) k_t_mask lk_t_42 ⟨Nat.le_of_ble_eq_true rfl, Nat.le_of_ble_eq_true rfl⟩ rfl hl.1 rfl (Nat.le_of_ble_eq_true rfl) d_t_depth_16 ⟨Nat.le_of_ble_eq_true rfl, Nat.le_of_ble_eq_true rfl⟩ ?_
      refine lv_iand hx hb d_t_depth_19 ?_
      refine lv_aload_n hx hb d_t_depth_20 rfl (lv_at hl 0 rfl) ?_
      refine tg_B E hK hP d_t_depth_21 ?_
      refine lv_iload_n hx hb d_t_depth_24 rfl (lv_at hl 3 rfl) ?_
      refine ta_B E hK hP g2 d_t_depth_25 ?_
      refine lv_icmp_ne (tgt := 57) hx hb d_t_depth_26 (by decide) (fun c5 => ?_) (fun c5 => ?_)
      · rw [if_neg c5] at h
        refine lv_iload_n hx hb d_t_depth_57 rfl (lv_at hl 2 rfl) ?_
        cases h
        exact W.iret (v := _) hx hb hr (fun t ht hW => ⟨rfl, ht⟩) (fun q hq => by cases hq) d_t_depth_58
      · rw [if_pos c5] at h
        refine lv_iinc (v := x2 + 1) (lv' := [(2, .int (x2 + 1)), (0, .ref (a 0)), (1, .int x1), (3, .int x3)]) hx hb d_t_depth_29 hl (k := 2) rfl rfl (by decide) rfl (fun ls hl => ?_)
        refine lv_aload_n hx hb d_t_depth_32 rfl (lv_at hl 1 rfl) ?_
        refine tg_L E hK hP d_t_depth_33 ?_
        refine lv_iload_n hx hb d_t_depth_36 rfl (lv_at hl 3 rfl) ?_
        refine ta_L E hK hP g2 d_t_depth_37 ?_
        refine lv_bipush (v := 32) hx hb d_t_depth_38 (by decide) ?_
        refine lv_icmp_ne (tgt := 47) hx hb d_t_depth_40 (by decide) (fun c6 => ?_) (fun c6 => ?_)
        · rw [if_neg c6] at h
          refine lv_aload_n hx hb d_t_depth_47 rfl (lv_at hl 1 rfl) ?_
          refine lv_iload_n hx hb d_t_depth_48 rfl (lv_at hl 3 rfl) ?_
          refine lv_iload_n hx hb d_t_depth_49 rfl (lv_at hl 2 rfl) ?_
          obtain ⟨v8, e7, h⟩ := Option.bind_eq_some_iff.mp h
          refine T_callR (As := [.int x3, .int x1]) (rest := []) (r := v8) E hK hP (c_t_child l D a cA S x3 x1 v8 e7) k_t_child lk_t_65 ⟨Nat.le_of_ble_eq_true rfl, Nat.le_of_ble_eq_true rfl⟩ rfl hl.1 rfl (Nat.le_of_ble_eq_true rfl) d_t_depth_50 ⟨Nat.le_of_ble_eq_true rfl, Nat.le_of_ble_eq_true rfl⟩ ?_
          refine lv_istore_n (lv' := [(3, .int v8), (2, .int (x2 + 1)), (0, .ref (a 0)), (1, .int x1)]) hx hb d_t_depth_53 rfl hl (by decide) rfl (fun ls hl => ?_)
          refine lv_goto (tgt := 4) hx hb d_t_depth_54 (by decide) ?_
          exact ih (x2 + 1) v8 h ls (lv_sub hl [2, 3, 1, 0] rfl)
        · rw [if_pos c6] at h
          refine lv_iconst (v := (-1)) hx hb d_t_depth_43 (by decide) ?_
          refine lv_goto (tgt := 53) hx hb d_t_depth_44 (by decide) ?_
          refine lv_istore_n (lv' := [(3, .int ((-1))), (2, .int (x2 + 1)), (0, .ref (a 0)), (1, .int x1)]) hx hb d_t_depth_53 rfl hl (by decide) rfl (fun ls hl => ?_)
          refine lv_goto (tgt := 4) hx hb d_t_depth_54 (by decide) ?_
          exact ih (x2 + 1) ((-1)) h ls (lv_sub hl [2, 3, 1, 0] rfl)
set_option maxHeartbeats 4000000 in
set_option maxRecDepth 100000 in
theorem c_t_depth (l : Launch) (D : va_G) (a : Nat → Nat) (cA : ClassId) (S : TS) (x1 : Int32) (r : Int32) (h : j_t_depth S x1 = some r) : Met l y_t_depth (Cond.code y_t_depth b_t_depth 4 (some .int) :: gT) (rmL 2) (rPcT D a cA S [.ref (a 0), .int x1]) (QcRead r) 0 0 (fun _ => False) := by
  refine T_metR (by decide) (Nat.le_of_ble_eq_true rfl) ?_
  intro p e s m below meth c ls E hr hlocks hP hK hl
  have E : CallFix p m c b_t_depth 4 s _ gT R_T := E
  have hx := E.1
  have hb := E.2.1
  have hl : lv_has ls 4 [(0, .ref (a 0)), (1, .int x1)] := hl
  unfold j_t_depth at h
  refine lv_iconst (v := 0) hx hb d_t_depth_0 (by decide) ?_
  refine lv_istore_n (lv' := [(2, .int 0), (0, .ref (a 0)), (1, .int x1)]) hx hb d_t_depth_1 rfl hl (by decide) rfl (fun ls hl => ?_)
  refine lv_iconst (v := 0) hx hb d_t_depth_2 (by decide) ?_
  refine lv_istore_n (lv' := [(3, .int 0), (2, .int 0), (0, .ref (a 0)), (1, .int x1)]) hx hb d_t_depth_3 rfl hl (by decide) rfl (fun ls hl => ?_)
  exact wl_t_depth_4 E hr hlocks hK hP FU 0 0 h ls (lv_sub hl [2, 3, 1, 0] rfl)
end
section
theorem d_m_isBefore_0 : decode b_m_isBefore 0 = .ok (.iload_n 1, 1) := by decide +kernel
theorem d_m_isBefore_1 : decode b_m_isBefore 1 = .ok (.ldc 36, 2) := by decide +kernel
theorem d_m_isBefore_3 : decode b_m_isBefore 3 = .ok (.ixor, 1) := by decide +kernel
theorem d_m_isBefore_4 : decode b_m_isBefore 4 = .ok (.istore 4, 2) := by decide +kernel
theorem d_m_isBefore_6 : decode b_m_isBefore 6 = .ok (.aload_n 0, 1) := by decide +kernel
theorem d_m_isBefore_7 : decode b_m_isBefore 7 = .ok (.getfield 7, 3) := by decide +kernel
theorem d_m_isBefore_10 : decode b_m_isBefore 10 = .ok (.iload_n 3, 1) := by decide +kernel
theorem d_m_isBefore_11 : decode b_m_isBefore 11 = .ok (.iaload, 1) := by decide +kernel
theorem d_m_isBefore_12 : decode b_m_isBefore 12 = .ok (.ldc 36, 2) := by decide +kernel
theorem d_m_isBefore_14 : decode b_m_isBefore 14 = .ok (.ixor, 1) := by decide +kernel
theorem d_m_isBefore_15 : decode b_m_isBefore 15 = .ok (.istore 5, 2) := by decide +kernel
theorem d_m_isBefore_17 : decode b_m_isBefore 17 = .ok (.iload 4, 2) := by decide +kernel
theorem d_m_isBefore_19 : decode b_m_isBefore 19 = .ok (.iload 5, 2) := by decide +kernel
theorem d_m_isBefore_21 : decode b_m_isBefore 21 = .ok (.if_icmp .eq 18, 3) := by decide +kernel
theorem d_m_isBefore_24 : decode b_m_isBefore 24 = .ok (.iload 4, 2) := by decide +kernel
theorem d_m_isBefore_26 : decode b_m_isBefore 26 = .ok (.iload 5, 2) := by decide +kernel
theorem d_m_isBefore_28 : decode b_m_isBefore 28 = .ok (.if_icmp .ge 7, 3) := by decide +kernel
theorem d_m_isBefore_31 : decode b_m_isBefore 31 = .ok (.iconst 1, 1) := by decide +kernel
theorem d_m_isBefore_32 : decode b_m_isBefore 32 = .ok (.goto 22, 3) := by decide +kernel
theorem d_m_isBefore_35 : decode b_m_isBefore 35 = .ok (.iconst 0, 1) := by decide +kernel
theorem d_m_isBefore_36 : decode b_m_isBefore 36 = .ok (.goto 18, 3) := by decide +kernel
theorem d_m_isBefore_39 : decode b_m_isBefore 39 = .ok (.iload_n 2, 1) := by decide +kernel
theorem d_m_isBefore_40 : decode b_m_isBefore 40 = .ok (.aload_n 0, 1) := by decide +kernel
theorem d_m_isBefore_41 : decode b_m_isBefore 41 = .ok (.getfield 13, 3) := by decide +kernel
theorem d_m_isBefore_44 : decode b_m_isBefore 44 = .ok (.iload_n 3, 1) := by decide +kernel
theorem d_m_isBefore_45 : decode b_m_isBefore 45 = .ok (.iaload, 1) := by decide +kernel
theorem d_m_isBefore_46 : decode b_m_isBefore 46 = .ok (.if_icmp .ge 7, 3) := by decide +kernel
theorem d_m_isBefore_49 : decode b_m_isBefore 49 = .ok (.iconst 1, 1) := by decide +kernel
theorem d_m_isBefore_50 : decode b_m_isBefore 50 = .ok (.goto 4, 3) := by decide +kernel
theorem d_m_isBefore_53 : decode b_m_isBefore 53 = .ok (.iconst 0, 1) := by decide +kernel
theorem d_m_isBefore_54 : decode b_m_isBefore 54 = .ok (.ireturn, 1) := by decide +kernel
set_option maxHeartbeats 4000000 in
set_option maxRecDepth 100000 in
theorem c_m_isBefore (l : Launch) (D : va_G) (a : Nat → Nat) (cA : ClassId) (S : MS) (x1 x2 x3 : Int32) (r : Int32) (h : j_m_isBefore S x1 x2 x3 = some r) : Met l y_m_isBefore (Cond.code y_m_isBefore b_m_isBefore 6 (some .boolean) :: gT) (rmL 0) (rPcM D a cA S [.ref (a 0), .int x1, .int x2, .int x3]) (QcRead r) 0 0 (fun _ => False) := by
  refine M_metR (by decide) (Nat.le_of_ble_eq_true rfl) ?_
  intro p e s m below meth c ls E hr hlocks hP hK hl
  have E : CallFix p m c b_m_isBefore 6 s _ gT R_M := E
  have hx := E.1
  have hb := E.2.1
  have hl : lv_has ls 6 [(0, .ref (a 0)), (1, .int x1), (2, .int x2), (3, .int x3)] := hl
  unfold j_m_isBefore at h
  refine lv_iload_n hx hb d_m_isBefore_0 rfl (lv_at hl 1 rfl) ?_
  refine lv_ldc hx hb E.2.2.2.1 (E.2.2.2.2 (.constant R_M 36 (-2147483648)) (by decide +kernel)) d_m_isBefore_1 ?_
  refine lv_ixor hx hb d_m_isBefore_3 ?_
  refine lv_istore (lv' := [(4, .int (x1 ^^^ ((-2147483648)))), (0, .ref (a 0)), (1, .int x1), (2, .int x2), (3, .int x3)]) hx hb d_m_isBefore_4 hl (by decide) rfl (fun ls hl => ?_)
  refine lv_aload_n hx hb d_m_isBefore_6 rfl (lv_at hl 1 rfl) ?_
  refine mg_B E hK hP d_m_isBefore_7 ?_
  refine lv_iload_n hx hb d_m_isBefore_10 rfl (lv_at hl 4 rfl) ?_
  obtain ⟨g1, h⟩ := gd_some h
  refine ma_B E hK hP g1 d_m_isBefore_11 ?_
  refine lv_ldc hx hb E.2.2.2.1 (E.2.2.2.2 (.constant R_M 36 (-2147483648)) (by decide +kernel)) d_m_isBefore_12 ?_
  refine lv_ixor hx hb d_m_isBefore_14 ?_
  refine lv_istore (lv' := [(5, .int ((mB S (cl x3)) ^^^ ((-2147483648)))), (4, .int (x1 ^^^ ((-2147483648)))), (0, .ref (a 0)), (1, .int x1), (2, .int x2), (3, .int x3)]) hx hb d_m_isBefore_15 hl (by decide) rfl (fun ls hl => ?_)
  refine lv_iload hx hb d_m_isBefore_17 (lv_at hl 1 rfl) ?_
  refine lv_iload hx hb d_m_isBefore_19 (lv_at hl 0 rfl) ?_
  refine lv_icmp_eq (tgt := 39) hx hb d_m_isBefore_21 (by decide) (fun c2 => ?_) (fun c2 => ?_)
  · rw [if_pos c2] at h
    refine lv_iload_n hx hb d_m_isBefore_39 rfl (lv_at hl 4 rfl) ?_
    refine lv_aload_n hx hb d_m_isBefore_40 rfl (lv_at hl 2 rfl) ?_
    refine mg_L E hK hP d_m_isBefore_41 ?_
    refine lv_iload_n hx hb d_m_isBefore_44 rfl (lv_at hl 5 rfl) ?_
    refine ma_L E hK hP g1 d_m_isBefore_45 ?_
    refine lv_icmp_ge (tgt := 53) hx hb d_m_isBefore_46 (by decide) (fun c3 => ?_) (fun c3 => ?_)
    · rw [if_pos c3] at h
      refine lv_iconst (v := 0) hx hb d_m_isBefore_53 (by decide) ?_
      cases h
      exact W.zret (v := _) (ty := .boolean) hx hb hr rfl (fun t ht hW => ⟨rfl, ht⟩) (fun q hq => by cases hq) d_m_isBefore_54
    · rw [if_neg c3] at h
      refine lv_iconst (v := 1) hx hb d_m_isBefore_49 (by decide) ?_
      refine lv_goto (tgt := 54) hx hb d_m_isBefore_50 (by decide) ?_
      cases h
      exact W.zret (v := _) (ty := .boolean) hx hb hr rfl (fun t ht hW => ⟨rfl, ht⟩) (fun q hq => by cases hq) d_m_isBefore_54
  · rw [if_neg c2] at h
    refine lv_iload hx hb d_m_isBefore_24 (lv_at hl 1 rfl) ?_
    refine lv_iload hx hb d_m_isBefore_26 (lv_at hl 0 rfl) ?_
    refine lv_icmp_ge (tgt := 35) hx hb d_m_isBefore_28 (by decide) (fun c4 => ?_) (fun c4 => ?_)
    · rw [if_pos c4] at h
      refine lv_iconst (v := 0) hx hb d_m_isBefore_35 (by decide) ?_
      refine lv_goto (tgt := 54) hx hb d_m_isBefore_36 (by decide) ?_
      cases h
      exact W.zret (v := _) (ty := .boolean) hx hb hr rfl (fun t ht hW => ⟨rfl, ht⟩) (fun q hq => by cases hq) d_m_isBefore_54
    · rw [if_neg c4] at h
      refine lv_iconst (v := 1) hx hb d_m_isBefore_31 (by decide) ?_
      refine lv_goto (tgt := 54) hx hb d_m_isBefore_32 (by decide) ?_
      cases h
      exact W.zret (v := _) (ty := .boolean) hx hb hr rfl (fun t ht hW => ⟨rfl, ht⟩) (fun q hq => by cases hq) d_m_isBefore_54
theorem d_m_find_0 : decode b_m_find 0 = .ok (.iconst 0, 1) := by decide +kernel
theorem d_m_find_1 : decode b_m_find 1 = .ok (.istore_n 3, 1) := by decide +kernel
theorem d_m_find_2 : decode b_m_find 2 = .ok (.iload_n 3, 1) := by decide +kernel
theorem d_m_find_3 : decode b_m_find 3 = .ok (.aload_n 0, 1) := by decide +kernel
theorem d_m_find_4 : decode b_m_find 4 = .ok (.getfield 29, 3) := by decide +kernel
theorem d_m_find_7 : decode b_m_find 7 = .ok (.if_icmp .ge 31, 3) := by decide +kernel
theorem d_m_find_10 : decode b_m_find 10 = .ok (.aload_n 0, 1) := by decide +kernel
theorem d_m_find_11 : decode b_m_find 11 = .ok (.getfield 7, 3) := by decide +kernel
theorem d_m_find_14 : decode b_m_find 14 = .ok (.iload_n 3, 1) := by decide +kernel
theorem d_m_find_15 : decode b_m_find 15 = .ok (.iaload, 1) := by decide +kernel
theorem d_m_find_16 : decode b_m_find 16 = .ok (.iload_n 1, 1) := by decide +kernel
theorem d_m_find_17 : decode b_m_find 17 = .ok (.if_icmp .ne 15, 3) := by decide +kernel
theorem d_m_find_20 : decode b_m_find 20 = .ok (.aload_n 0, 1) := by decide +kernel
theorem d_m_find_21 : decode b_m_find 21 = .ok (.getfield 13, 3) := by decide +kernel
theorem d_m_find_24 : decode b_m_find 24 = .ok (.iload_n 3, 1) := by decide +kernel
theorem d_m_find_25 : decode b_m_find 25 = .ok (.iaload, 1) := by decide +kernel
theorem d_m_find_26 : decode b_m_find 26 = .ok (.iload_n 2, 1) := by decide +kernel
theorem d_m_find_27 : decode b_m_find 27 = .ok (.if_icmp .ne 5, 3) := by decide +kernel
theorem d_m_find_30 : decode b_m_find 30 = .ok (.iload_n 3, 1) := by decide +kernel
theorem d_m_find_31 : decode b_m_find 31 = .ok (.ireturn, 1) := by decide +kernel
theorem d_m_find_32 : decode b_m_find 32 = .ok (.iinc 3 1, 3) := by decide +kernel
theorem d_m_find_35 : decode b_m_find 35 = .ok (.goto (-33), 3) := by decide +kernel
theorem d_m_find_38 : decode b_m_find 38 = .ok (.iconst (-1), 1) := by decide +kernel
theorem d_m_find_39 : decode b_m_find 39 = .ok (.ireturn, 1) := by decide +kernel
set_option maxHeartbeats 4000000 in
set_option maxRecDepth 100000 in
theorem wl_m_find_2 {p : Program} {l : Launch} {e : Env} {s : State} {m : MethodId} {args : Array Value} {below : List Frame} {meth : Method} {c : Code} {D : va_G} {a : Nat → Nat} {cA : ClassId} {S : MS} {x1 x2 : Int32} {r : Int32} (E : CallFix p m c b_m_find 4 s args gT R_M) (hr : meth.sig.returnType = some .int) (hlocks : meth.locks = false) (hK : va_K D classes [(cA, .int)] s) (hP : va_P D classes (wM a cA S) s.heap) : ∀ (k : Nat) (x3 : Int32), L_m_find_2 S x1 x2 k x3 = some r → ∀ ls : Array Slot, lv_has ls 4 [(0, .ref (a 0)), (1, .int x1), (2, .int x2), (3, .int x3)] → W p l e (rmL 0) s m args below meth c s.heap [] 0 0 (MQ below (QcRead r) args s 0 0 (fun _ => False)) (F0 m 2 ls []) := by
  have hx := E.1
  have hb := E.2.1
  intro k
  induction k with
  | zero =>
    intro x3 h
    cases h
  | succ k ih =>
    intro x3 h ls hl
    rw [L_m_find_2] at h
    refine lv_iload_n hx hb d_m_find_2 rfl (lv_at hl 3 rfl) ?_
    refine lv_aload_n hx hb d_m_find_3 rfl (lv_at hl 0 rfl) ?_
    refine mg_N E hK hP d_m_find_4 ?_
    refine lv_icmp_ge (tgt := 38) hx hb d_m_find_7 (by decide) (fun c1 => ?_) (fun c1 => ?_)
    · rw [if_pos c1] at h
      refine lv_iconst (v := (-1)) hx hb d_m_find_38 (by decide) ?_
      cases h
      exact W.iret (v := _) hx hb hr (fun t ht hW => ⟨rfl, ht⟩) (fun q hq => by cases hq) d_m_find_39
    · rw [if_neg c1] at h
      refine lv_aload_n hx hb d_m_find_10 rfl (lv_at hl 0 rfl) ?_
      refine mg_B E hK hP d_m_find_11 ?_
      refine lv_iload_n hx hb d_m_find_14 rfl (lv_at hl 3 rfl) ?_
      obtain ⟨g2, h⟩ := gd_some h
      refine ma_B E hK hP g2 d_m_find_15 ?_
      refine lv_iload_n hx hb d_m_find_16 rfl (lv_at hl 1 rfl) ?_
      refine lv_icmp_ne (tgt := 32) hx hb d_m_find_17 (by decide) (fun c3 => ?_) (fun c3 => ?_)
      · rw [if_neg c3] at h
        refine lv_iinc (v := x3 + 1) (lv' := [(3, .int (x3 + 1)), (0, .ref (a 0)), (1, .int x1), (2, .int x2)]) hx hb d_m_find_32 hl (k := 3) rfl rfl (by decide) rfl (fun ls hl => ?_)
        refine lv_goto (tgt := 2) hx hb d_m_find_35 (by decide) ?_
        exact ih (x3 + 1) h ls (lv_sub hl [1, 2, 3, 0] rfl)
      · rw [if_pos c3] at h
        refine lv_aload_n hx hb d_m_find_20 rfl (lv_at hl 0 rfl) ?_
        refine mg_L E hK hP d_m_find_21 ?_
        refine lv_iload_n hx hb d_m_find_24 rfl (lv_at hl 3 rfl) ?_
        refine ma_L E hK hP g2 d_m_find_25 ?_
        refine lv_iload_n hx hb d_m_find_26 rfl (lv_at hl 2 rfl) ?_
        refine lv_icmp_ne (tgt := 32) hx hb d_m_find_27 (by decide) (fun c4 => ?_) (fun c4 => ?_)
        · rw [if_neg c4] at h
          refine lv_iinc (v := x3 + 1) (lv' := [(3, .int (x3 + 1)), (0, .ref (a 0)), (1, .int x1), (2, .int x2)]) hx hb d_m_find_32 hl (k := 3) rfl rfl (by decide) rfl (fun ls hl => ?_)
          refine lv_goto (tgt := 2) hx hb d_m_find_35 (by decide) ?_
          exact ih (x3 + 1) h ls (lv_sub hl [1, 2, 3, 0] rfl)
        · rw [if_pos c4] at h
          refine lv_iload_n hx hb d_m_find_30 rfl (lv_at hl 3 rfl) ?_
          cases h
          exact W.iret (v := _) hx hb hr (fun t ht hW => ⟨rfl, ht⟩) (fun q hq => by cases hq) d_m_find_31
set_option maxHeartbeats 4000000 in
set_option maxRecDepth 100000 in
theorem c_m_find (l : Launch) (D : va_G) (a : Nat → Nat) (cA : ClassId) (S : MS) (x1 x2 : Int32) (r : Int32) (h : j_m_find S x1 x2 = some r) : Met l y_m_find (Cond.code y_m_find b_m_find 4 (some .int) :: gT) (rmL 0) (rPcM D a cA S [.ref (a 0), .int x1, .int x2]) (QcRead r) 0 0 (fun _ => False) := by
  refine M_metR (by decide) (Nat.le_of_ble_eq_true rfl) ?_
  intro p e s m below meth c ls E hr hlocks hP hK hl
  have E : CallFix p m c b_m_find 4 s _ gT R_M := E
  have hx := E.1
  have hb := E.2.1
  have hl : lv_has ls 4 [(0, .ref (a 0)), (1, .int x1), (2, .int x2)] := hl
  unfold j_m_find at h
  refine lv_iconst (v := 0) hx hb d_m_find_0 (by decide) ?_
  refine lv_istore_n (lv' := [(3, .int 0), (0, .ref (a 0)), (1, .int x1), (2, .int x2)]) hx hb d_m_find_1 rfl hl (by decide) rfl (fun ls hl => ?_)
  exact wl_m_find_2 E hr hlocks hK hP FU 0 h ls (lv_sub hl [1, 2, 3, 0] rfl)
theorem d_m_longest_0 : decode b_m_longest 0 = .ok (.iconst (-1), 1) := by decide +kernel
theorem d_m_longest_1 : decode b_m_longest 1 = .ok (.istore_n 2, 1) := by decide +kernel
theorem d_m_longest_2 : decode b_m_longest 2 = .ok (.iconst 0, 1) := by decide +kernel
theorem d_m_longest_3 : decode b_m_longest 3 = .ok (.istore_n 3, 1) := by decide +kernel
theorem d_m_longest_4 : decode b_m_longest 4 = .ok (.iload_n 3, 1) := by decide +kernel
theorem d_m_longest_5 : decode b_m_longest 5 = .ok (.aload_n 0, 1) := by decide +kernel
theorem d_m_longest_6 : decode b_m_longest 6 = .ok (.getfield 29, 3) := by decide +kernel
theorem d_m_longest_9 : decode b_m_longest 9 = .ok (.if_icmp .ge 50, 3) := by decide +kernel
theorem d_m_longest_12 : decode b_m_longest 12 = .ok (.iload_n 1, 1) := by decide +kernel
theorem d_m_longest_13 : decode b_m_longest 13 = .ok (.aload_n 0, 1) := by decide +kernel
theorem d_m_longest_14 : decode b_m_longest 14 = .ok (.getfield 7, 3) := by decide +kernel
theorem d_m_longest_17 : decode b_m_longest 17 = .ok (.iload_n 3, 1) := by decide +kernel
theorem d_m_longest_18 : decode b_m_longest 18 = .ok (.iaload, 1) := by decide +kernel
theorem d_m_longest_19 : decode b_m_longest 19 = .ok (.aload_n 0, 1) := by decide +kernel
theorem d_m_longest_20 : decode b_m_longest 20 = .ok (.getfield 13, 3) := by decide +kernel
theorem d_m_longest_23 : decode b_m_longest 23 = .ok (.iload_n 3, 1) := by decide +kernel
theorem d_m_longest_24 : decode b_m_longest 24 = .ok (.iaload, 1) := by decide +kernel
theorem d_m_longest_25 : decode b_m_longest 25 = .ok (.invokestatic 49, 3) := by decide +kernel
theorem d_m_longest_28 : decode b_m_longest 28 = .ok (.ifCond .eq 25, 3) := by decide +kernel
theorem d_m_longest_31 : decode b_m_longest 31 = .ok (.iload_n 2, 1) := by decide +kernel
theorem d_m_longest_32 : decode b_m_longest 32 = .ok (.iconst (-1), 1) := by decide +kernel
theorem d_m_longest_33 : decode b_m_longest 33 = .ok (.if_icmp .eq 18, 3) := by decide +kernel
theorem d_m_longest_36 : decode b_m_longest 36 = .ok (.aload_n 0, 1) := by decide +kernel
theorem d_m_longest_37 : decode b_m_longest 37 = .ok (.getfield 13, 3) := by decide +kernel
theorem d_m_longest_40 : decode b_m_longest 40 = .ok (.iload_n 3, 1) := by decide +kernel
theorem d_m_longest_41 : decode b_m_longest 41 = .ok (.iaload, 1) := by decide +kernel
theorem d_m_longest_42 : decode b_m_longest 42 = .ok (.aload_n 0, 1) := by decide +kernel
theorem d_m_longest_43 : decode b_m_longest 43 = .ok (.getfield 13, 3) := by decide +kernel
theorem d_m_longest_46 : decode b_m_longest 46 = .ok (.iload_n 2, 1) := by decide +kernel
theorem d_m_longest_47 : decode b_m_longest 47 = .ok (.iaload, 1) := by decide +kernel
theorem d_m_longest_48 : decode b_m_longest 48 = .ok (.if_icmp .le 5, 3) := by decide +kernel
theorem d_m_longest_51 : decode b_m_longest 51 = .ok (.iload_n 3, 1) := by decide +kernel
theorem d_m_longest_52 : decode b_m_longest 52 = .ok (.istore_n 2, 1) := by decide +kernel
theorem d_m_longest_53 : decode b_m_longest 53 = .ok (.iinc 3 1, 3) := by decide +kernel
theorem d_m_longest_56 : decode b_m_longest 56 = .ok (.goto (-52), 3) := by decide +kernel
theorem d_m_longest_59 : decode b_m_longest 59 = .ok (.iload_n 2, 1) := by decide +kernel
theorem d_m_longest_60 : decode b_m_longest 60 = .ok (.ireturn, 1) := by decide +kernel
set_option maxHeartbeats 4000000 in
set_option maxRecDepth 100000 in
theorem wl_m_longest_4 {p : Program} {l : Launch} {e : Env} {s : State} {m : MethodId} {args : Array Value} {below : List Frame} {meth : Method} {c : Code} {D : va_G} {a : Nat → Nat} {cA : ClassId} {S : MS} {x1 : Int32} {r : Int32} (E : CallFix p m c b_m_longest 4 s args gT R_M) (hr : meth.sig.returnType = some .int) (hlocks : meth.locks = false) (hK : va_K D classes [(cA, .int)] s) (hP : va_P D classes (wM a cA S) s.heap) : ∀ (k : Nat) (x2 x3 : Int32), L_m_longest_4 S x1 k x2 x3 = some r → ∀ ls : Array Slot, lv_has ls 4 [(0, .ref (a 0)), (1, .int x1), (2, .int x2), (3, .int x3)] → W p l e (rmL 2) s m args below meth c s.heap [] 0 0 (MQ below (QcRead r) args s 0 0 (fun _ => False)) (F0 m 4 ls []) := by
  have hx := E.1
  have hb := E.2.1
  intro k
  induction k with
  | zero =>
    intro x2 x3 h
    cases h
  | succ k ih =>
    intro x2 x3 h ls hl
    rw [L_m_longest_4] at h
    refine lv_iload_n hx hb d_m_longest_4 rfl (lv_at hl 3 rfl) ?_
    refine lv_aload_n hx hb d_m_longest_5 rfl (lv_at hl 0 rfl) ?_
    refine mg_N E hK hP d_m_longest_6 ?_
    refine lv_icmp_ge (tgt := 59) hx hb d_m_longest_9 (by decide) (fun c1 => ?_) (fun c1 => ?_)
    · rw [if_pos c1] at h
      refine lv_iload_n hx hb d_m_longest_59 rfl (lv_at hl 2 rfl) ?_
      cases h
      exact W.iret (v := _) hx hb hr (fun t ht hW => ⟨rfl, ht⟩) (fun q hq => by cases hq) d_m_longest_60
    · rw [if_neg c1] at h
      refine lv_iload_n hx hb d_m_longest_12 rfl (lv_at hl 1 rfl) ?_
      refine lv_aload_n hx hb d_m_longest_13 rfl (lv_at hl 0 rfl) ?_
      refine mg_B E hK hP d_m_longest_14 ?_
      refine lv_iload_n hx hb d_m_longest_17 rfl (lv_at hl 3 rfl) ?_
      obtain ⟨g2, h⟩ := gd_some h
      refine ma_B E hK hP g2 d_m_longest_18 ?_
      refine lv_aload_n hx hb d_m_longest_19 rfl (lv_at hl 0 rfl) ?_
      refine mg_L E hK hP d_m_longest_20 ?_
      refine lv_iload_n hx hb d_m_longest_23 rfl (lv_at hl 3 rfl) ?_
      refine ma_L E hK hP g2 d_m_longest_24 ?_
      obtain ⟨v4, e3, h⟩ := Option.bind_eq_some_iff.mp h
      refine S_call (As := [.int x1, .int (mB S (cl x3)), .int (mL S (cl x3))]) (rest := []) (r := v4) E (c_m_begins l x1 (mB S (cl x3)) (mL S (cl x3)) v4 e3) k_m_begins lk_m_49 ⟨Nat.le_of_ble_eq_true rfl, Nat.le_of_ble_eq_true rfl⟩ rfl hl.1 rfl (Nat.le_of_ble_eq_true rfl) d_m_longest_25 ⟨Nat.le_of_ble_eq_true rfl, Nat.le_of_ble_eq_true rfl⟩ ?_
      refine lv_if_eq (tgt := 53) hx hb d_m_longest_28 (by decide) (fun c5 => ?_) (fun c5 => ?_)
      · rw [if_pos c5] at h
        refine lv_iinc (v := x3 + 1) (lv' := [(3, .int (x3 + 1)), (0, .ref (a 0)), (1, .int x1), (2, .int x2)]) hx hb d_m_longest_53 hl (k := 3) rfl rfl (by decide) rfl (fun ls hl => ?_)
        refine lv_goto (tgt := 4) hx hb d_m_longest_56 (by decide) ?_
        exact ih x2 (x3 + 1) h ls (lv_sub hl [1, 2, 3, 0] rfl)
      · rw [if_neg c5] at h
        refine lv_iload_n hx hb d_m_longest_31 rfl (lv_at hl 2 rfl) ?_
        refine lv_iconst (v := (-1)) hx hb d_m_longest_32 (by decide) ?_
        refine lv_icmp_eq (tgt := 51) hx hb d_m_longest_33 (by decide) (fun c6 => ?_) (fun c6 => ?_)
        · rw [if_pos c6] at h
          refine lv_iload_n hx hb d_m_longest_51 rfl (lv_at hl 3 rfl) ?_
          refine lv_istore_n (lv' := [(2, .int x3), (0, .ref (a 0)), (1, .int x1), (3, .int x3)]) hx hb d_m_longest_52 rfl hl (by decide) rfl (fun ls hl => ?_)
          refine lv_iinc (v := x3 + 1) (lv' := [(3, .int (x3 + 1)), (2, .int x3), (0, .ref (a 0)), (1, .int x1)]) hx hb d_m_longest_53 hl (k := 3) rfl rfl (by decide) rfl (fun ls hl => ?_)
          refine lv_goto (tgt := 4) hx hb d_m_longest_56 (by decide) ?_
          exact ih x3 (x3 + 1) h ls (lv_sub hl [2, 3, 1, 0] rfl)
        · rw [if_neg c6] at h
          refine lv_aload_n hx hb d_m_longest_36 rfl (lv_at hl 0 rfl) ?_
          refine mg_L E hK hP d_m_longest_37 ?_
          refine lv_iload_n hx hb d_m_longest_40 rfl (lv_at hl 3 rfl) ?_
          refine ma_L E hK hP g2 d_m_longest_41 ?_
          refine lv_aload_n hx hb d_m_longest_42 rfl (lv_at hl 0 rfl) ?_
          refine mg_L E hK hP d_m_longest_43 ?_
          refine lv_iload_n hx hb d_m_longest_46 rfl (lv_at hl 2 rfl) ?_
          obtain ⟨g7, h⟩ := gd_some h
          refine ma_L E hK hP g7 d_m_longest_47 ?_
          refine lv_icmp_le (tgt := 53) hx hb d_m_longest_48 (by decide) (fun c8 => ?_) (fun c8 => ?_)
          · rw [if_pos c8] at h
            refine lv_iinc (v := x3 + 1) (lv' := [(3, .int (x3 + 1)), (0, .ref (a 0)), (1, .int x1), (2, .int x2)]) hx hb d_m_longest_53 hl (k := 3) rfl rfl (by decide) rfl (fun ls hl => ?_)
            refine lv_goto (tgt := 4) hx hb d_m_longest_56 (by decide) ?_
            exact ih x2 (x3 + 1) h ls (lv_sub hl [1, 2, 3, 0] rfl)
          · rw [if_neg c8] at h
            refine lv_iload_n hx hb d_m_longest_51 rfl (lv_at hl 3 rfl) ?_
            refine lv_istore_n (lv' := [(2, .int x3), (0, .ref (a 0)), (1, .int x1), (3, .int x3)]) hx hb d_m_longest_52 rfl hl (by decide) rfl (fun ls hl => ?_)
            refine lv_iinc (v := x3 + 1) (lv' := [(3, .int (x3 + 1)), (2, .int x3), (0, .ref (a 0)), (1, .int x1)]) hx hb d_m_longest_53 hl (k := 3) rfl rfl (by decide) rfl (fun ls hl => ?_)
            refine lv_goto (tgt := 4) hx hb d_m_longest_56 (by decide) ?_
            exact ih x3 (x3 + 1) h ls (lv_sub hl [2, 3, 1, 0] rfl)
set_option maxHeartbeats 4000000 in
set_option maxRecDepth 100000 in
theorem c_m_longest (l : Launch) (D : va_G) (a : Nat → Nat) (cA : ClassId) (S : MS) (x1 : Int32) (r : Int32) (h : j_m_longest S x1 = some r) : Met l y_m_longest (Cond.code y_m_longest b_m_longest 4 (some .int) :: gT) (rmL 2) (rPcM D a cA S [.ref (a 0), .int x1]) (QcRead r) 0 0 (fun _ => False) := by
  refine M_metR (by decide) (Nat.le_of_ble_eq_true rfl) ?_
  intro p e s m below meth c ls E hr hlocks hP hK hl
  have E : CallFix p m c b_m_longest 4 s _ gT R_M := E
  have hx := E.1
  have hb := E.2.1
  have hl : lv_has ls 4 [(0, .ref (a 0)), (1, .int x1)] := hl
  unfold j_m_longest at h
  refine lv_iconst (v := (-1)) hx hb d_m_longest_0 (by decide) ?_
  refine lv_istore_n (lv' := [(2, .int ((-1))), (0, .ref (a 0)), (1, .int x1)]) hx hb d_m_longest_1 rfl hl (by decide) rfl (fun ls hl => ?_)
  refine lv_iconst (v := 0) hx hb d_m_longest_2 (by decide) ?_
  refine lv_istore_n (lv' := [(3, .int 0), (2, .int ((-1))), (0, .ref (a 0)), (1, .int x1)]) hx hb d_m_longest_3 rfl hl (by decide) rfl (fun ls hl => ?_)
  exact wl_m_longest_4 E hr hlocks hK hP FU ((-1)) 0 h ls (lv_sub hl [2, 3, 1, 0] rfl)
theorem d_m_init_0 : decode b_m_init 0 = .ok (.aload_n 0, 1) := by decide +kernel
theorem d_m_init_1 : decode b_m_init 1 = .ok (.iconst 0, 1) := by decide +kernel
theorem d_m_init_2 : decode b_m_init 2 = .ok (.putfield 25, 3) := by decide +kernel
theorem d_m_init_5 : decode b_m_init 5 = .ok (.aload_n 0, 1) := by decide +kernel
theorem d_m_init_6 : decode b_m_init 6 = .ok (.iconst 0, 1) := by decide +kernel
theorem d_m_init_7 : decode b_m_init 7 = .ok (.putfield 29, 3) := by decide +kernel
theorem d_m_init_10 : decode b_m_init 10 = .ok (.return_, 1) := by decide +kernel
set_option maxHeartbeats 4000000 in
set_option maxRecDepth 100000 in
theorem c_m_init (l : Launch) (D : va_G) (a : Nat → Nat) (cA : ClassId) (S : MS) (S' : MS) (h : j_m_init S = some S') : Met l y_m_init (Cond.code y_m_init b_m_init 1 (none) :: gT) (rmL 0) (mPcM D a cA S [.ref (a 0)]) (mQcM D a cA none S') 0 0 (aM a) := by
  refine M_metM (by decide) (Nat.le_of_ble_eq_true rfl) ?_
  intro p e s m below meth c ls E hr hlocks hP hK hD hS hl
  have E : CallFix p m c b_m_init 1 s _ gT R_M := E
  have hx := E.1
  have hb := E.2.1
  have hl : lv_has ls 1 [(0, .ref (a 0))] := hl
  unfold j_m_init at h
  refine lv_aload_n hx hb d_m_init_0 rfl (lv_at hl 0 rfl) ?_
  refine lv_iconst (v := 0) hx hb d_m_init_1 (by decide) ?_
  refine mp_K E hK hD hP hS d_m_init_2 (fun H locs hP hS => ?_)
  refine lv_aload_n hx hb d_m_init_5 rfl (lv_at hl 0 rfl) ?_
  refine lv_iconst (v := 0) hx hb d_m_init_6 (by decide) ?_
  refine mp_N E hK hD hP hS d_m_init_7 (fun H locs hP hS => ?_)
  cases h
  exact W.vret hx hb hr (fun t ht hW => ⟨rfl, by rw [ht]; exact hP, hS.F ht⟩) hS.2.2 d_m_init_10
theorem d_m_insert_0 : decode b_m_insert 0 = .ok (.aload_n 0, 1) := by decide +kernel
theorem d_m_insert_1 : decode b_m_insert 1 = .ok (.iconst 0, 1) := by decide +kernel
theorem d_m_insert_2 : decode b_m_insert 2 = .ok (.putfield 25, 3) := by decide +kernel
theorem d_m_insert_5 : decode b_m_insert 5 = .ok (.iload_n 1, 1) := by decide +kernel
theorem d_m_insert_6 : decode b_m_insert 6 = .ok (.iload_n 2, 1) := by decide +kernel
theorem d_m_insert_7 : decode b_m_insert 7 = .ok (.invokestatic 37, 3) := by decide +kernel
theorem d_m_insert_10 : decode b_m_insert 10 = .ok (.ifCond .eq 7, 3) := by decide +kernel
theorem d_m_insert_13 : decode b_m_insert 13 = .ok (.iload_n 3, 1) := by decide +kernel
theorem d_m_insert_14 : decode b_m_insert 14 = .ok (.ifCond .ge 5, 3) := by decide +kernel
theorem d_m_insert_17 : decode b_m_insert 17 = .ok (.iconst (-1), 1) := by decide +kernel
theorem d_m_insert_18 : decode b_m_insert 18 = .ok (.ireturn, 1) := by decide +kernel
theorem d_m_insert_19 : decode b_m_insert 19 = .ok (.aload_n 0, 1) := by decide +kernel
theorem d_m_insert_20 : decode b_m_insert 20 = .ok (.iload_n 1, 1) := by decide +kernel
theorem d_m_insert_21 : decode b_m_insert 21 = .ok (.iload_n 2, 1) := by decide +kernel
theorem d_m_insert_22 : decode b_m_insert 22 = .ok (.invokevirtual 41, 3) := by decide +kernel
theorem d_m_insert_25 : decode b_m_insert 25 = .ok (.istore 4, 2) := by decide +kernel
theorem d_m_insert_27 : decode b_m_insert 27 = .ok (.iload 4, 2) := by decide +kernel
theorem d_m_insert_29 : decode b_m_insert 29 = .ok (.iconst (-1), 1) := by decide +kernel
theorem d_m_insert_30 : decode b_m_insert 30 = .ok (.if_icmp .eq 13, 3) := by decide +kernel
theorem d_m_insert_33 : decode b_m_insert 33 = .ok (.aload_n 0, 1) := by decide +kernel
theorem d_m_insert_34 : decode b_m_insert 34 = .ok (.getfield 16, 3) := by decide +kernel
theorem d_m_insert_37 : decode b_m_insert 37 = .ok (.iload 4, 2) := by decide +kernel
theorem d_m_insert_39 : decode b_m_insert 39 = .ok (.iload_n 3, 1) := by decide +kernel
theorem d_m_insert_40 : decode b_m_insert 40 = .ok (.iastore, 1) := by decide +kernel
theorem d_m_insert_41 : decode b_m_insert 41 = .ok (.iconst 0, 1) := by decide +kernel
theorem d_m_insert_42 : decode b_m_insert 42 = .ok (.ireturn, 1) := by decide +kernel
theorem d_m_insert_43 : decode b_m_insert 43 = .ok (.aload_n 0, 1) := by decide +kernel
theorem d_m_insert_44 : decode b_m_insert 44 = .ok (.getfield 29, 3) := by decide +kernel
theorem d_m_insert_47 : decode b_m_insert 47 = .ok (.sipush 500, 3) := by decide +kernel
theorem d_m_insert_50 : decode b_m_insert 50 = .ok (.if_icmp .ne 6, 3) := by decide +kernel
theorem d_m_insert_53 : decode b_m_insert 53 = .ok (.bipush (-2), 2) := by decide +kernel
theorem d_m_insert_55 : decode b_m_insert 55 = .ok (.ireturn, 1) := by decide +kernel
theorem d_m_insert_56 : decode b_m_insert 56 = .ok (.aload_n 0, 1) := by decide +kernel
theorem d_m_insert_57 : decode b_m_insert 57 = .ok (.getfield 29, 3) := by decide +kernel
theorem d_m_insert_60 : decode b_m_insert 60 = .ok (.istore 5, 2) := by decide +kernel
theorem d_m_insert_62 : decode b_m_insert 62 = .ok (.iload 5, 2) := by decide +kernel
theorem d_m_insert_64 : decode b_m_insert 64 = .ok (.ifCond .le 70, 3) := by decide +kernel
theorem d_m_insert_67 : decode b_m_insert 67 = .ok (.aload_n 0, 1) := by decide +kernel
theorem d_m_insert_68 : decode b_m_insert 68 = .ok (.iload_n 1, 1) := by decide +kernel
theorem d_m_insert_69 : decode b_m_insert 69 = .ok (.iload_n 2, 1) := by decide +kernel
theorem d_m_insert_70 : decode b_m_insert 70 = .ok (.iload 5, 2) := by decide +kernel
theorem d_m_insert_72 : decode b_m_insert 72 = .ok (.iconst 1, 1) := by decide +kernel
theorem d_m_insert_73 : decode b_m_insert 73 = .ok (.isub, 1) := by decide +kernel
theorem d_m_insert_74 : decode b_m_insert 74 = .ok (.invokevirtual 45, 3) := by decide +kernel
theorem d_m_insert_77 : decode b_m_insert 77 = .ok (.ifCond .eq 57, 3) := by decide +kernel
theorem d_m_insert_80 : decode b_m_insert 80 = .ok (.aload_n 0, 1) := by decide +kernel
theorem d_m_insert_81 : decode b_m_insert 81 = .ok (.getfield 7, 3) := by decide +kernel
theorem d_m_insert_84 : decode b_m_insert 84 = .ok (.iload 5, 2) := by decide +kernel
theorem d_m_insert_86 : decode b_m_insert 86 = .ok (.aload_n 0, 1) := by decide +kernel
theorem d_m_insert_87 : decode b_m_insert 87 = .ok (.getfield 7, 3) := by decide +kernel
theorem d_m_insert_90 : decode b_m_insert 90 = .ok (.iload 5, 2) := by decide +kernel
theorem d_m_insert_92 : decode b_m_insert 92 = .ok (.iconst 1, 1) := by decide +kernel
theorem d_m_insert_93 : decode b_m_insert 93 = .ok (.isub, 1) := by decide +kernel
theorem d_m_insert_94 : decode b_m_insert 94 = .ok (.iaload, 1) := by decide +kernel
theorem d_m_insert_95 : decode b_m_insert 95 = .ok (.iastore, 1) := by decide +kernel
theorem d_m_insert_96 : decode b_m_insert 96 = .ok (.aload_n 0, 1) := by decide +kernel
theorem d_m_insert_97 : decode b_m_insert 97 = .ok (.getfield 13, 3) := by decide +kernel
theorem d_m_insert_100 : decode b_m_insert 100 = .ok (.iload 5, 2) := by decide +kernel
theorem d_m_insert_102 : decode b_m_insert 102 = .ok (.aload_n 0, 1) := by decide +kernel
theorem d_m_insert_103 : decode b_m_insert 103 = .ok (.getfield 13, 3) := by decide +kernel
theorem d_m_insert_106 : decode b_m_insert 106 = .ok (.iload 5, 2) := by decide +kernel
theorem d_m_insert_108 : decode b_m_insert 108 = .ok (.iconst 1, 1) := by decide +kernel
theorem d_m_insert_109 : decode b_m_insert 109 = .ok (.isub, 1) := by decide +kernel
theorem d_m_insert_110 : decode b_m_insert 110 = .ok (.iaload, 1) := by decide +kernel
theorem d_m_insert_111 : decode b_m_insert 111 = .ok (.iastore, 1) := by decide +kernel
theorem d_m_insert_112 : decode b_m_insert 112 = .ok (.aload_n 0, 1) := by decide +kernel
theorem d_m_insert_113 : decode b_m_insert 113 = .ok (.getfield 16, 3) := by decide +kernel
theorem d_m_insert_116 : decode b_m_insert 116 = .ok (.iload 5, 2) := by decide +kernel
theorem d_m_insert_118 : decode b_m_insert 118 = .ok (.aload_n 0, 1) := by decide +kernel
theorem d_m_insert_119 : decode b_m_insert 119 = .ok (.getfield 16, 3) := by decide +kernel
theorem d_m_insert_122 : decode b_m_insert 122 = .ok (.iload 5, 2) := by decide +kernel
theorem d_m_insert_124 : decode b_m_insert 124 = .ok (.iconst 1, 1) := by decide +kernel
theorem d_m_insert_125 : decode b_m_insert 125 = .ok (.isub, 1) := by decide +kernel
theorem d_m_insert_126 : decode b_m_insert 126 = .ok (.iaload, 1) := by decide +kernel
theorem d_m_insert_127 : decode b_m_insert 127 = .ok (.iastore, 1) := by decide +kernel
theorem d_m_insert_128 : decode b_m_insert 128 = .ok (.iinc 5 (-1), 3) := by decide +kernel
theorem d_m_insert_131 : decode b_m_insert 131 = .ok (.goto (-69), 3) := by decide +kernel
theorem d_m_insert_134 : decode b_m_insert 134 = .ok (.aload_n 0, 1) := by decide +kernel
theorem d_m_insert_135 : decode b_m_insert 135 = .ok (.getfield 7, 3) := by decide +kernel
theorem d_m_insert_138 : decode b_m_insert 138 = .ok (.iload 5, 2) := by decide +kernel
theorem d_m_insert_140 : decode b_m_insert 140 = .ok (.iload_n 1, 1) := by decide +kernel
theorem d_m_insert_141 : decode b_m_insert 141 = .ok (.iastore, 1) := by decide +kernel
theorem d_m_insert_142 : decode b_m_insert 142 = .ok (.aload_n 0, 1) := by decide +kernel
theorem d_m_insert_143 : decode b_m_insert 143 = .ok (.getfield 13, 3) := by decide +kernel
theorem d_m_insert_146 : decode b_m_insert 146 = .ok (.iload 5, 2) := by decide +kernel
theorem d_m_insert_148 : decode b_m_insert 148 = .ok (.iload_n 2, 1) := by decide +kernel
theorem d_m_insert_149 : decode b_m_insert 149 = .ok (.iastore, 1) := by decide +kernel
theorem d_m_insert_150 : decode b_m_insert 150 = .ok (.aload_n 0, 1) := by decide +kernel
theorem d_m_insert_151 : decode b_m_insert 151 = .ok (.getfield 16, 3) := by decide +kernel
theorem d_m_insert_154 : decode b_m_insert 154 = .ok (.iload 5, 2) := by decide +kernel
theorem d_m_insert_156 : decode b_m_insert 156 = .ok (.iload_n 3, 1) := by decide +kernel
theorem d_m_insert_157 : decode b_m_insert 157 = .ok (.iastore, 1) := by decide +kernel
theorem d_m_insert_158 : decode b_m_insert 158 = .ok (.aload_n 0, 1) := by decide +kernel
theorem d_m_insert_159 : decode b_m_insert 159 = .ok (.dup, 1) := by decide +kernel
theorem d_m_insert_160 : decode b_m_insert 160 = .ok (.getfield 29, 3) := by decide +kernel
theorem d_m_insert_163 : decode b_m_insert 163 = .ok (.iconst 1, 1) := by decide +kernel
theorem d_m_insert_164 : decode b_m_insert 164 = .ok (.iadd, 1) := by decide +kernel
theorem d_m_insert_165 : decode b_m_insert 165 = .ok (.putfield 29, 3) := by decide +kernel
theorem d_m_insert_168 : decode b_m_insert 168 = .ok (.iconst 1, 1) := by decide +kernel
theorem d_m_insert_169 : decode b_m_insert 169 = .ok (.ireturn, 1) := by decide +kernel
set_option maxHeartbeats 4000000 in
set_option maxRecDepth 100000 in
theorem wl_m_insert_62 {p : Program} {l : Launch} {e : Env} {s : State} {m : MethodId} {args : Array Value} {below : List Frame} {meth : Method} {c : Code} {D : va_G} {a : Nat → Nat} {cA : ClassId} {S' : MS} {r : Int32} {x1 x2 x3 x4 : Int32} (E : CallFix p m c b_m_insert 6 s args gT R_M) (hr : meth.sig.returnType = some .int) (hlocks : meth.locks = false) (hK : va_K D classes [(cA, .int)] s) (hD : ∀ S : MS, va_D (aM a) (wM a cA S)) : ∀ (k : Nat) (S : MS) (x5 : Int32), L_m_insert_62 x1 x2 x3 x4 k S x5 = some (r, S') → ∀ (H : Heap) (locs : List Loc), va_P D classes (wM a cA S) H → va_S (aM a) s.heap H locs → ∀ ls : Array Slot, lv_has ls 6 [(0, .ref (a 0)), (1, .int x1), (2, .int x2), (3, .int x3), (4, .int x4), (5, .int x5)] → W p l e (rmL 2) s m args below meth c H locs 0 0 (MQ below (mQcM D a cA (some (.int r)) S') args s 0 0 (aM a)) (F0 m 62 ls []) := by
  have hx := E.1
  have hb := E.2.1
  intro k
  induction k with
  | zero =>
    intro S x5 h
    cases h
  | succ k ih =>
    intro S x5 h H locs hP hS ls hl
    rw [L_m_insert_62] at h
    refine lv_iload hx hb d_m_insert_62 (lv_at hl 5 rfl) ?_
    refine lv_if_le (tgt := 134) hx hb d_m_insert_64 (by decide) (fun c9 => ?_) (fun c9 => ?_)
    · rw [if_pos c9] at h
      refine lv_aload_n hx hb d_m_insert_134 rfl (lv_at hl 0 rfl) ?_
      refine mg_B E hK hP d_m_insert_135 ?_
      refine lv_iload hx hb d_m_insert_138 (lv_at hl 5 rfl) ?_
      refine lv_iload_n hx hb d_m_insert_140 rfl (lv_at hl 1 rfl) ?_
      obtain ⟨g10, h⟩ := gd_some h
      refine ms_B E hK hD hP hS g10 d_m_insert_141 (fun H locs hP hS => ?_)
      refine lv_aload_n hx hb d_m_insert_142 rfl (lv_at hl 0 rfl) ?_
      refine mg_L E hK hP d_m_insert_143 ?_
      refine lv_iload hx hb d_m_insert_146 (lv_at hl 5 rfl) ?_
      refine lv_iload_n hx hb d_m_insert_148 rfl (lv_at hl 2 rfl) ?_
      refine ms_L E hK hD hP hS g10 d_m_insert_149 (fun H locs hP hS => ?_)
      refine lv_aload_n hx hb d_m_insert_150 rfl (lv_at hl 0 rfl) ?_
      refine mg_H E hK hP d_m_insert_151 ?_
      refine lv_iload hx hb d_m_insert_154 (lv_at hl 5 rfl) ?_
      refine lv_iload_n hx hb d_m_insert_156 rfl (lv_at hl 3 rfl) ?_
      refine ms_H E hK hD hP hS g10 d_m_insert_157 (fun H locs hP hS => ?_)
      refine lv_aload_n hx hb d_m_insert_158 rfl (lv_at hl 0 rfl) ?_
      refine lv_dup hx hb d_m_insert_159 rfl ?_
      refine mg_N E hK hP d_m_insert_160 ?_
      refine lv_iconst (v := 1) hx hb d_m_insert_163 (by decide) ?_
      refine lv_iadd hx hb d_m_insert_164 ?_
      refine mp_N E hK hD hP hS d_m_insert_165 (fun H locs hP hS => ?_)
      refine lv_iconst (v := 1) hx hb d_m_insert_168 (by decide) ?_
      cases h
      exact W.iret (v := _) hx hb hr (fun t ht hW => ⟨rfl, by rw [ht]; exact hP, hS.F ht⟩) hS.2.2 d_m_insert_169
    · rw [if_neg c9] at h
      refine lv_aload_n hx hb d_m_insert_67 rfl (lv_at hl 0 rfl) ?_
      refine lv_iload_n hx hb d_m_insert_68 rfl (lv_at hl 1 rfl) ?_
      refine lv_iload_n hx hb d_m_insert_69 rfl (lv_at hl 2 rfl) ?_
      refine lv_iload hx hb d_m_insert_70 (lv_at hl 5 rfl) ?_
      refine lv_iconst (v := 1) hx hb d_m_insert_72 (by decide) ?_
      refine lv_isub hx hb d_m_insert_73 ?_
      obtain ⟨v12, e11, h⟩ := Option.bind_eq_some_iff.mp h
      refine M_callR (As := [.int x1, .int x2, .int (x5 - 1)]) (rest := []) (r := v12) E hK hP (c_m_isBefore l D a cA S x1 x2 (x5 - 1) v12 e11) k_m_isBefore lk_m_45 ⟨Nat.le_of_ble_eq_true rfl, Nat.le_of_ble_eq_true rfl⟩ rfl hl.1 rfl (Nat.le_of_ble_eq_true rfl) d_m_insert_74 ⟨Nat.le_of_ble_eq_true rfl, Nat.le_of_ble_eq_true rfl⟩ ?_
      refine lv_if_eq (tgt := 134) hx hb d_m_insert_77 (by decide) (fun c13 => ?_) (fun c13 => ?_)
      · rw [if_pos c13] at h
        refine lv_aload_n hx hb d_m_insert_134 rfl (lv_at hl 0 rfl) ?_
        refine mg_B E hK hP d_m_insert_135 ?_
        refine lv_iload hx hb d_m_insert_138 (lv_at hl 5 rfl) ?_
        refine lv_iload_n hx hb d_m_insert_140 rfl (lv_at hl 1 rfl) ?_
        obtain ⟨g14, h⟩ := gd_some h
        refine ms_B E hK hD hP hS g14 d_m_insert_141 (fun H locs hP hS => ?_)
        refine lv_aload_n hx hb d_m_insert_142 rfl (lv_at hl 0 rfl) ?_
        refine mg_L E hK hP d_m_insert_143 ?_
        refine lv_iload hx hb d_m_insert_146 (lv_at hl 5 rfl) ?_
        refine lv_iload_n hx hb d_m_insert_148 rfl (lv_at hl 2 rfl) ?_
        refine ms_L E hK hD hP hS g14 d_m_insert_149 (fun H locs hP hS => ?_)
        refine lv_aload_n hx hb d_m_insert_150 rfl (lv_at hl 0 rfl) ?_
        refine mg_H E hK hP d_m_insert_151 ?_
        refine lv_iload hx hb d_m_insert_154 (lv_at hl 5 rfl) ?_
        refine lv_iload_n hx hb d_m_insert_156 rfl (lv_at hl 3 rfl) ?_
        refine ms_H E hK hD hP hS g14 d_m_insert_157 (fun H locs hP hS => ?_)
        refine lv_aload_n hx hb d_m_insert_158 rfl (lv_at hl 0 rfl) ?_
        refine lv_dup hx hb d_m_insert_159 rfl ?_
        refine mg_N E hK hP d_m_insert_160 ?_
        refine lv_iconst (v := 1) hx hb d_m_insert_163 (by decide) ?_
        refine lv_iadd hx hb d_m_insert_164 ?_
        refine mp_N E hK hD hP hS d_m_insert_165 (fun H locs hP hS => ?_)
        refine lv_iconst (v := 1) hx hb d_m_insert_168 (by decide) ?_
        cases h
        exact W.iret (v := _) hx hb hr (fun t ht hW => ⟨rfl, by rw [ht]; exact hP, hS.F ht⟩) hS.2.2 d_m_insert_169
      · rw [if_neg c13] at h
        refine lv_aload_n hx hb d_m_insert_80 rfl (lv_at hl 0 rfl) ?_
        refine mg_B E hK hP d_m_insert_81 ?_
        refine lv_iload hx hb d_m_insert_84 (lv_at hl 5 rfl) ?_
        refine lv_aload_n hx hb d_m_insert_86 rfl (lv_at hl 0 rfl) ?_
        refine mg_B E hK hP d_m_insert_87 ?_
        refine lv_iload hx hb d_m_insert_90 (lv_at hl 5 rfl) ?_
        refine lv_iconst (v := 1) hx hb d_m_insert_92 (by decide) ?_
        refine lv_isub hx hb d_m_insert_93 ?_
        obtain ⟨g15, h⟩ := gd_some h
        refine ma_B E hK hP g15 d_m_insert_94 ?_
        obtain ⟨g16, h⟩ := gd_some h
        refine ms_B E hK hD hP hS g16 d_m_insert_95 (fun H locs hP hS => ?_)
        refine lv_aload_n hx hb d_m_insert_96 rfl (lv_at hl 0 rfl) ?_
        refine mg_L E hK hP d_m_insert_97 ?_
        refine lv_iload hx hb d_m_insert_100 (lv_at hl 5 rfl) ?_
        refine lv_aload_n hx hb d_m_insert_102 rfl (lv_at hl 0 rfl) ?_
        refine mg_L E hK hP d_m_insert_103 ?_
        refine lv_iload hx hb d_m_insert_106 (lv_at hl 5 rfl) ?_
        refine lv_iconst (v := 1) hx hb d_m_insert_108 (by decide) ?_
        refine lv_isub hx hb d_m_insert_109 ?_
        refine ma_L E hK hP g15 d_m_insert_110 ?_
        refine ms_L E hK hD hP hS g16 d_m_insert_111 (fun H locs hP hS => ?_)
        refine lv_aload_n hx hb d_m_insert_112 rfl (lv_at hl 0 rfl) ?_
        refine mg_H E hK hP d_m_insert_113 ?_
        refine lv_iload hx hb d_m_insert_116 (lv_at hl 5 rfl) ?_
        refine lv_aload_n hx hb d_m_insert_118 rfl (lv_at hl 0 rfl) ?_
        refine mg_H E hK hP d_m_insert_119 ?_
        refine lv_iload hx hb d_m_insert_122 (lv_at hl 5 rfl) ?_
        refine lv_iconst (v := 1) hx hb d_m_insert_124 (by decide) ?_
        refine lv_isub hx hb d_m_insert_125 ?_
        refine ma_H E hK hP g15 d_m_insert_126 ?_
        refine ms_H E hK hD hP hS g16 d_m_insert_127 (fun H locs hP hS => ?_)
        refine lv_iinc (v := x5 + (-1)) (lv' := [(5, .int (x5 + (-1))), (0, .ref (a 0)), (1, .int x1), (2, .int x2), (3, .int x3), (4, .int x4)]) hx hb d_m_insert_128 hl (k := 5) rfl rfl (by decide) rfl (fun ls hl => ?_)
        refine lv_goto (tgt := 62) hx hb d_m_insert_131 (by decide) ?_
        exact ih (vH (vL (vB S (cl x5) (mB S (cl (x5 - 1)))) (cl x5) (mL (vB S (cl x5) (mB S (cl (x5 - 1)))) (cl (x5 - 1)))) (cl x5) (mH (vL (vB S (cl x5) (mB S (cl (x5 - 1)))) (cl x5) (mL (vB S (cl x5) (mB S (cl (x5 - 1)))) (cl (x5 - 1)))) (cl (x5 - 1)))) (x5 + (-1)) h _ _ hP hS ls (lv_sub hl [1, 2, 3, 4, 5, 0] rfl)
set_option maxHeartbeats 4000000 in
set_option maxRecDepth 100000 in
theorem c_m_insert (l : Launch) (D : va_G) (a : Nat → Nat) (cA : ClassId) (S : MS) (x1 x2 x3 : Int32) (r : Int32) (S' : MS) (h : j_m_insert S x1 x2 x3 = some (r, S')) : Met l y_m_insert (Cond.code y_m_insert b_m_insert 6 (some .int) :: gT) (rmL 2) (mPcM D a cA S [.ref (a 0), .int x1, .int x2, .int x3]) (mQcM D a cA (some (.int r)) S') 0 0 (aM a) := by
  refine M_metM (by decide) (Nat.le_of_ble_eq_true rfl) ?_
  intro p e s m below meth c ls E hr hlocks hP hK hD hS hl
  have E : CallFix p m c b_m_insert 6 s _ gT R_M := E
  have hx := E.1
  have hb := E.2.1
  have hl : lv_has ls 6 [(0, .ref (a 0)), (1, .int x1), (2, .int x2), (3, .int x3)] := hl
  unfold j_m_insert at h
  refine lv_aload_n hx hb d_m_insert_0 rfl (lv_at hl 0 rfl) ?_
  refine lv_iconst (v := 0) hx hb d_m_insert_1 (by decide) ?_
  refine mp_K E hK hD hP hS d_m_insert_2 (fun H locs hP hS => ?_)
  refine lv_iload_n hx hb d_m_insert_5 rfl (lv_at hl 1 rfl) ?_
  refine lv_iload_n hx hb d_m_insert_6 rfl (lv_at hl 2 rfl) ?_
  obtain ⟨v2, e1, h⟩ := Option.bind_eq_some_iff.mp h
  refine S_call (As := [.int x1, .int x2]) (rest := []) (r := v2) E (c_m_isPrefix l x1 x2 v2 e1) k_m_isPrefix lk_m_37 ⟨Nat.le_of_ble_eq_true rfl, Nat.le_of_ble_eq_true rfl⟩ rfl hl.1 rfl (Nat.le_of_ble_eq_true rfl) d_m_insert_7 ⟨Nat.le_of_ble_eq_true rfl, Nat.le_of_ble_eq_true rfl⟩ ?_
  refine lv_if_eq (tgt := 17) hx hb d_m_insert_10 (by decide) (fun c3 => ?_) (fun c3 => ?_)
  · rw [if_pos c3] at h
    refine lv_iconst (v := (-1)) hx hb d_m_insert_17 (by decide) ?_
    cases h
    exact W.iret (v := _) hx hb hr (fun t ht hW => ⟨rfl, by rw [ht]; exact hP, hS.F ht⟩) hS.2.2 d_m_insert_18
  · rw [if_neg c3] at h
    refine lv_iload_n hx hb d_m_insert_13 rfl (lv_at hl 3 rfl) ?_
    refine lv_if_ge (tgt := 19) hx hb d_m_insert_14 (by decide) (fun c4 => ?_) (fun c4 => ?_)
    · rw [if_pos c4] at h
      refine lv_aload_n hx hb d_m_insert_19 rfl (lv_at hl 0 rfl) ?_
      refine lv_iload_n hx hb d_m_insert_20 rfl (lv_at hl 1 rfl) ?_
      refine lv_iload_n hx hb d_m_insert_21 rfl (lv_at hl 2 rfl) ?_
      obtain ⟨v6, e5, h⟩ := Option.bind_eq_some_iff.mp h
      refine M_callR (As := [.int x1, .int x2]) (rest := []) (r := v6) E hK hP (c_m_find l D a cA (vK S 0) x1 x2 v6 e5) k_m_find lk_m_41 ⟨Nat.le_of_ble_eq_true rfl, Nat.le_of_ble_eq_true rfl⟩ rfl hl.1 rfl (Nat.le_of_ble_eq_true rfl) d_m_insert_22 ⟨Nat.le_of_ble_eq_true rfl, Nat.le_of_ble_eq_true rfl⟩ ?_
      refine lv_istore (lv' := [(4, .int v6), (0, .ref (a 0)), (1, .int x1), (2, .int x2), (3, .int x3)]) hx hb d_m_insert_25 hl (by decide) rfl (fun ls hl => ?_)
      refine lv_iload hx hb d_m_insert_27 (lv_at hl 0 rfl) ?_
      refine lv_iconst (v := (-1)) hx hb d_m_insert_29 (by decide) ?_
      refine lv_icmp_eq (tgt := 43) hx hb d_m_insert_30 (by decide) (fun c7 => ?_) (fun c7 => ?_)
      · rw [if_pos c7] at h
        refine lv_aload_n hx hb d_m_insert_43 rfl (lv_at hl 1 rfl) ?_
        refine mg_N E hK hP d_m_insert_44 ?_
        refine lv_sipush (v := 500) hx hb d_m_insert_47 (by decide) ?_
        refine lv_icmp_ne (tgt := 56) hx hb d_m_insert_50 (by decide) (fun c8 => ?_) (fun c8 => ?_)
        · rw [if_neg c8] at h
          refine lv_aload_n hx hb d_m_insert_56 rfl (lv_at hl 1 rfl) ?_
          refine mg_N E hK hP d_m_insert_57 ?_
          refine lv_istore (lv' := [(5, .int (mN (vK S 0))), (4, .int v6), (0, .ref (a 0)), (1, .int x1), (2, .int x2), (3, .int x3)]) hx hb d_m_insert_60 hl (by decide) rfl (fun ls hl => ?_)
          exact wl_m_insert_62 E hr hlocks hK hD FU (vK S 0) (mN (vK S 0)) h _ _ hP hS ls (lv_sub hl [2, 3, 4, 5, 1, 0] rfl)
        · rw [if_pos c8] at h
          refine lv_bipush (v := (-2)) hx hb d_m_insert_53 (by decide) ?_
          cases h
          exact W.iret (v := _) hx hb hr (fun t ht hW => ⟨rfl, by rw [ht]; exact hP, hS.F ht⟩) hS.2.2 d_m_insert_55
      · rw [if_neg c7] at h
        refine lv_aload_n hx hb d_m_insert_33 rfl (lv_at hl 1 rfl) ?_
        refine mg_H E hK hP d_m_insert_34 ?_
        refine lv_iload hx hb d_m_insert_37 (lv_at hl 0 rfl) ?_
        refine lv_iload_n hx hb d_m_insert_39 rfl (lv_at hl 4 rfl) ?_
        obtain ⟨g17, h⟩ := gd_some h
        refine ms_H E hK hD hP hS g17 d_m_insert_40 (fun H locs hP hS => ?_)
        refine lv_iconst (v := 0) hx hb d_m_insert_41 (by decide) ?_
        cases h
        exact W.iret (v := _) hx hb hr (fun t ht hW => ⟨rfl, by rw [ht]; exact hP, hS.F ht⟩) hS.2.2 d_m_insert_42
    · rw [if_neg c4] at h
      refine lv_iconst (v := (-1)) hx hb d_m_insert_17 (by decide) ?_
      cases h
      exact W.iret (v := _) hx hb hr (fun t ht hW => ⟨rfl, by rw [ht]; exact hP, hS.F ht⟩) hS.2.2 d_m_insert_18
theorem d_m_remove_0 : decode b_m_remove 0 = .ok (.aload_n 0, 1) := by decide +kernel
theorem d_m_remove_1 : decode b_m_remove 1 = .ok (.iconst 0, 1) := by decide +kernel
theorem d_m_remove_2 : decode b_m_remove 2 = .ok (.putfield 25, 3) := by decide +kernel
theorem d_m_remove_5 : decode b_m_remove 5 = .ok (.aload_n 0, 1) := by decide +kernel
theorem d_m_remove_6 : decode b_m_remove 6 = .ok (.iload_n 1, 1) := by decide +kernel
theorem d_m_remove_7 : decode b_m_remove 7 = .ok (.iload_n 2, 1) := by decide +kernel
theorem d_m_remove_8 : decode b_m_remove 8 = .ok (.invokevirtual 41, 3) := by decide +kernel
theorem d_m_remove_11 : decode b_m_remove 11 = .ok (.istore_n 3, 1) := by decide +kernel
theorem d_m_remove_12 : decode b_m_remove 12 = .ok (.iload_n 3, 1) := by decide +kernel
theorem d_m_remove_13 : decode b_m_remove 13 = .ok (.iconst (-1), 1) := by decide +kernel
theorem d_m_remove_14 : decode b_m_remove 14 = .ok (.if_icmp .ne 5, 3) := by decide +kernel
theorem d_m_remove_17 : decode b_m_remove 17 = .ok (.iconst 0, 1) := by decide +kernel
theorem d_m_remove_18 : decode b_m_remove 18 = .ok (.ireturn, 1) := by decide +kernel
theorem d_m_remove_19 : decode b_m_remove 19 = .ok (.iload_n 3, 1) := by decide +kernel
theorem d_m_remove_20 : decode b_m_remove 20 = .ok (.istore 4, 2) := by decide +kernel
theorem d_m_remove_22 : decode b_m_remove 22 = .ok (.iload 4, 2) := by decide +kernel
theorem d_m_remove_24 : decode b_m_remove 24 = .ok (.iconst 1, 1) := by decide +kernel
theorem d_m_remove_25 : decode b_m_remove 25 = .ok (.iadd, 1) := by decide +kernel
theorem d_m_remove_26 : decode b_m_remove 26 = .ok (.aload_n 0, 1) := by decide +kernel
theorem d_m_remove_27 : decode b_m_remove 27 = .ok (.getfield 29, 3) := by decide +kernel
theorem d_m_remove_30 : decode b_m_remove 30 = .ok (.if_icmp .ge 57, 3) := by decide +kernel
theorem d_m_remove_33 : decode b_m_remove 33 = .ok (.aload_n 0, 1) := by decide +kernel
theorem d_m_remove_34 : decode b_m_remove 34 = .ok (.getfield 7, 3) := by decide +kernel
theorem d_m_remove_37 : decode b_m_remove 37 = .ok (.iload 4, 2) := by decide +kernel
theorem d_m_remove_39 : decode b_m_remove 39 = .ok (.aload_n 0, 1) := by decide +kernel
theorem d_m_remove_40 : decode b_m_remove 40 = .ok (.getfield 7, 3) := by decide +kernel
theorem d_m_remove_43 : decode b_m_remove 43 = .ok (.iload 4, 2) := by decide +kernel
theorem d_m_remove_45 : decode b_m_remove 45 = .ok (.iconst 1, 1) := by decide +kernel
theorem d_m_remove_46 : decode b_m_remove 46 = .ok (.iadd, 1) := by decide +kernel
theorem d_m_remove_47 : decode b_m_remove 47 = .ok (.iaload, 1) := by decide +kernel
theorem d_m_remove_48 : decode b_m_remove 48 = .ok (.iastore, 1) := by decide +kernel
theorem d_m_remove_49 : decode b_m_remove 49 = .ok (.aload_n 0, 1) := by decide +kernel
theorem d_m_remove_50 : decode b_m_remove 50 = .ok (.getfield 13, 3) := by decide +kernel
theorem d_m_remove_53 : decode b_m_remove 53 = .ok (.iload 4, 2) := by decide +kernel
theorem d_m_remove_55 : decode b_m_remove 55 = .ok (.aload_n 0, 1) := by decide +kernel
theorem d_m_remove_56 : decode b_m_remove 56 = .ok (.getfield 13, 3) := by decide +kernel
theorem d_m_remove_59 : decode b_m_remove 59 = .ok (.iload 4, 2) := by decide +kernel
theorem d_m_remove_61 : decode b_m_remove 61 = .ok (.iconst 1, 1) := by decide +kernel
theorem d_m_remove_62 : decode b_m_remove 62 = .ok (.iadd, 1) := by decide +kernel
theorem d_m_remove_63 : decode b_m_remove 63 = .ok (.iaload, 1) := by decide +kernel
theorem d_m_remove_64 : decode b_m_remove 64 = .ok (.iastore, 1) := by decide +kernel
theorem d_m_remove_65 : decode b_m_remove 65 = .ok (.aload_n 0, 1) := by decide +kernel
theorem d_m_remove_66 : decode b_m_remove 66 = .ok (.getfield 16, 3) := by decide +kernel
theorem d_m_remove_69 : decode b_m_remove 69 = .ok (.iload 4, 2) := by decide +kernel
theorem d_m_remove_71 : decode b_m_remove 71 = .ok (.aload_n 0, 1) := by decide +kernel
theorem d_m_remove_72 : decode b_m_remove 72 = .ok (.getfield 16, 3) := by decide +kernel
theorem d_m_remove_75 : decode b_m_remove 75 = .ok (.iload 4, 2) := by decide +kernel
theorem d_m_remove_77 : decode b_m_remove 77 = .ok (.iconst 1, 1) := by decide +kernel
theorem d_m_remove_78 : decode b_m_remove 78 = .ok (.iadd, 1) := by decide +kernel
theorem d_m_remove_79 : decode b_m_remove 79 = .ok (.iaload, 1) := by decide +kernel
theorem d_m_remove_80 : decode b_m_remove 80 = .ok (.iastore, 1) := by decide +kernel
theorem d_m_remove_81 : decode b_m_remove 81 = .ok (.iinc 4 1, 3) := by decide +kernel
theorem d_m_remove_84 : decode b_m_remove 84 = .ok (.goto (-62), 3) := by decide +kernel
theorem d_m_remove_87 : decode b_m_remove 87 = .ok (.aload_n 0, 1) := by decide +kernel
theorem d_m_remove_88 : decode b_m_remove 88 = .ok (.dup, 1) := by decide +kernel
theorem d_m_remove_89 : decode b_m_remove 89 = .ok (.getfield 29, 3) := by decide +kernel
theorem d_m_remove_92 : decode b_m_remove 92 = .ok (.iconst 1, 1) := by decide +kernel
theorem d_m_remove_93 : decode b_m_remove 93 = .ok (.isub, 1) := by decide +kernel
theorem d_m_remove_94 : decode b_m_remove 94 = .ok (.putfield 29, 3) := by decide +kernel
theorem d_m_remove_97 : decode b_m_remove 97 = .ok (.iconst 1, 1) := by decide +kernel
theorem d_m_remove_98 : decode b_m_remove 98 = .ok (.ireturn, 1) := by decide +kernel
set_option maxHeartbeats 4000000 in
set_option maxRecDepth 100000 in
theorem wl_m_remove_22 {p : Program} {l : Launch} {e : Env} {s : State} {m : MethodId} {args : Array Value} {below : List Frame} {meth : Method} {c : Code} {D : va_G} {a : Nat → Nat} {cA : ClassId} {S' : MS} {r : Int32} {x1 x2 x3 : Int32} (E : CallFix p m c b_m_remove 5 s args gT R_M) (hr : meth.sig.returnType = some .boolean) (hlocks : meth.locks = false) (hK : va_K D classes [(cA, .int)] s) (hD : ∀ S : MS, va_D (aM a) (wM a cA S)) : ∀ (k : Nat) (S : MS) (x4 : Int32), L_m_remove_22 x1 x2 x3 k S x4 = some (r, S') → ∀ (H : Heap) (locs : List Loc), va_P D classes (wM a cA S) H → va_S (aM a) s.heap H locs → ∀ ls : Array Slot, lv_has ls 5 [(0, .ref (a 0)), (1, .int x1), (2, .int x2), (3, .int x3), (4, .int x4)] → W p l e (rmL 1) s m args below meth c H locs 0 0 (MQ below (mQcM D a cA (some (.int r)) S') args s 0 0 (aM a)) (F0 m 22 ls []) := by
  have hx := E.1
  have hb := E.2.1
  intro k
  induction k with
  | zero =>
    intro S x4 h
    cases h
  | succ k ih =>
    intro S x4 h H locs hP hS ls hl
    rw [L_m_remove_22] at h
    refine lv_iload hx hb d_m_remove_22 (lv_at hl 4 rfl) ?_
    refine lv_iconst (v := 1) hx hb d_m_remove_24 (by decide) ?_
    refine lv_iadd hx hb d_m_remove_25 ?_
    refine lv_aload_n hx hb d_m_remove_26 rfl (lv_at hl 0 rfl) ?_
    refine mg_N E hK hP d_m_remove_27 ?_
    refine lv_icmp_ge (tgt := 87) hx hb d_m_remove_30 (by decide) (fun c4 => ?_) (fun c4 => ?_)
    · rw [if_pos c4] at h
      refine lv_aload_n hx hb d_m_remove_87 rfl (lv_at hl 0 rfl) ?_
      refine lv_dup hx hb d_m_remove_88 rfl ?_
      refine mg_N E hK hP d_m_remove_89 ?_
      refine lv_iconst (v := 1) hx hb d_m_remove_92 (by decide) ?_
      refine lv_isub hx hb d_m_remove_93 ?_
      refine mp_N E hK hD hP hS d_m_remove_94 (fun H locs hP hS => ?_)
      refine lv_iconst (v := 1) hx hb d_m_remove_97 (by decide) ?_
      cases h
      exact W.zret (v := _) (ty := .boolean) hx hb hr rfl (fun t ht hW => ⟨rfl, by rw [ht]; exact hP, hS.F ht⟩) hS.2.2 d_m_remove_98
    · rw [if_neg c4] at h
      refine lv_aload_n hx hb d_m_remove_33 rfl (lv_at hl 0 rfl) ?_
      refine mg_B E hK hP d_m_remove_34 ?_
      refine lv_iload hx hb d_m_remove_37 (lv_at hl 4 rfl) ?_
      refine lv_aload_n hx hb d_m_remove_39 rfl (lv_at hl 0 rfl) ?_
      refine mg_B E hK hP d_m_remove_40 ?_
      refine lv_iload hx hb d_m_remove_43 (lv_at hl 4 rfl) ?_
      refine lv_iconst (v := 1) hx hb d_m_remove_45 (by decide) ?_
      refine lv_iadd hx hb d_m_remove_46 ?_
      obtain ⟨g5, h⟩ := gd_some h
      refine ma_B E hK hP g5 d_m_remove_47 ?_
      obtain ⟨g6, h⟩ := gd_some h
      refine ms_B E hK hD hP hS g6 d_m_remove_48 (fun H locs hP hS => ?_)
      refine lv_aload_n hx hb d_m_remove_49 rfl (lv_at hl 0 rfl) ?_
      refine mg_L E hK hP d_m_remove_50 ?_
      refine lv_iload hx hb d_m_remove_53 (lv_at hl 4 rfl) ?_
      refine lv_aload_n hx hb d_m_remove_55 rfl (lv_at hl 0 rfl) ?_
      refine mg_L E hK hP d_m_remove_56 ?_
      refine lv_iload hx hb d_m_remove_59 (lv_at hl 4 rfl) ?_
      refine lv_iconst (v := 1) hx hb d_m_remove_61 (by decide) ?_
      refine lv_iadd hx hb d_m_remove_62 ?_
      refine ma_L E hK hP g5 d_m_remove_63 ?_
      refine ms_L E hK hD hP hS g6 d_m_remove_64 (fun H locs hP hS => ?_)
      refine lv_aload_n hx hb d_m_remove_65 rfl (lv_at hl 0 rfl) ?_
      refine mg_H E hK hP d_m_remove_66 ?_
      refine lv_iload hx hb d_m_remove_69 (lv_at hl 4 rfl) ?_
      refine lv_aload_n hx hb d_m_remove_71 rfl (lv_at hl 0 rfl) ?_
      refine mg_H E hK hP d_m_remove_72 ?_
      refine lv_iload hx hb d_m_remove_75 (lv_at hl 4 rfl) ?_
      refine lv_iconst (v := 1) hx hb d_m_remove_77 (by decide) ?_
      refine lv_iadd hx hb d_m_remove_78 ?_
      refine ma_H E hK hP g5 d_m_remove_79 ?_
      refine ms_H E hK hD hP hS g6 d_m_remove_80 (fun H locs hP hS => ?_)
      refine lv_iinc (v := x4 + 1) (lv' := [(4, .int (x4 + 1)), (0, .ref (a 0)), (1, .int x1), (2, .int x2), (3, .int x3)]) hx hb d_m_remove_81 hl (k := 4) rfl rfl (by decide) rfl (fun ls hl => ?_)
      refine lv_goto (tgt := 22) hx hb d_m_remove_84 (by decide) ?_
      exact ih (vH (vL (vB S (cl x4) (mB S (cl (x4 + 1)))) (cl x4) (mL (vB S (cl x4) (mB S (cl (x4 + 1)))) (cl (x4 + 1)))) (cl x4) (mH (vL (vB S (cl x4) (mB S (cl (x4 + 1)))) (cl x4) (mL (vB S (cl x4) (mB S (cl (x4 + 1)))) (cl (x4 + 1)))) (cl (x4 + 1)))) (x4 + 1) h _ _ hP hS ls (lv_sub hl [1, 2, 3, 4, 0] rfl)
set_option maxHeartbeats 4000000 in
set_option maxRecDepth 100000 in
theorem c_m_remove (l : Launch) (D : va_G) (a : Nat → Nat) (cA : ClassId) (S : MS) (x1 x2 : Int32) (r : Int32) (S' : MS) (h : j_m_remove S x1 x2 = some (r, S')) : Met l y_m_remove (Cond.code y_m_remove b_m_remove 5 (some .boolean) :: gT) (rmL 1) (mPcM D a cA S [.ref (a 0), .int x1, .int x2]) (mQcM D a cA (some (.int r)) S') 0 0 (aM a) := by
  refine M_metM (by decide) (Nat.le_of_ble_eq_true rfl) ?_
  intro p e s m below meth c ls E hr hlocks hP hK hD hS hl
  have E : CallFix p m c b_m_remove 5 s _ gT R_M := E
  have hx := E.1
  have hb := E.2.1
  have hl : lv_has ls 5 [(0, .ref (a 0)), (1, .int x1), (2, .int x2)] := hl
  unfold j_m_remove at h
  refine lv_aload_n hx hb d_m_remove_0 rfl (lv_at hl 0 rfl) ?_
  refine lv_iconst (v := 0) hx hb d_m_remove_1 (by decide) ?_
  refine mp_K E hK hD hP hS d_m_remove_2 (fun H locs hP hS => ?_)
  refine lv_aload_n hx hb d_m_remove_5 rfl (lv_at hl 0 rfl) ?_
  refine lv_iload_n hx hb d_m_remove_6 rfl (lv_at hl 1 rfl) ?_
  refine lv_iload_n hx hb d_m_remove_7 rfl (lv_at hl 2 rfl) ?_
  obtain ⟨v2, e1, h⟩ := Option.bind_eq_some_iff.mp h
  refine M_callR (As := [.int x1, .int x2]) (rest := []) (r := v2) E hK hP (c_m_find l D a cA (vK S 0) x1 x2 v2 e1) k_m_find lk_m_41 ⟨Nat.le_of_ble_eq_true rfl, Nat.le_of_ble_eq_true rfl⟩ rfl hl.1 rfl (Nat.le_of_ble_eq_true rfl) d_m_remove_8 ⟨Nat.le_of_ble_eq_true rfl, Nat.le_of_ble_eq_true rfl⟩ ?_
  refine lv_istore_n (lv' := [(3, .int v2), (0, .ref (a 0)), (1, .int x1), (2, .int x2)]) hx hb d_m_remove_11 rfl hl (by decide) rfl (fun ls hl => ?_)
  refine lv_iload_n hx hb d_m_remove_12 rfl (lv_at hl 0 rfl) ?_
  refine lv_iconst (v := (-1)) hx hb d_m_remove_13 (by decide) ?_
  refine lv_icmp_ne (tgt := 19) hx hb d_m_remove_14 (by decide) (fun c3 => ?_) (fun c3 => ?_)
  · rw [if_neg c3] at h
    refine lv_iload_n hx hb d_m_remove_19 rfl (lv_at hl 0 rfl) ?_
    refine lv_istore (lv' := [(4, .int v2), (3, .int v2), (0, .ref (a 0)), (1, .int x1), (2, .int x2)]) hx hb d_m_remove_20 hl (by decide) rfl (fun ls hl => ?_)
    exact wl_m_remove_22 E hr hlocks hK hD FU (vK S 0) v2 h _ _ hP hS ls (lv_sub hl [2, 3, 4, 1, 0] rfl)
  · rw [if_pos c3] at h
    refine lv_iconst (v := 0) hx hb d_m_remove_17 (by decide) ?_
    cases h
    exact W.zret (v := _) (ty := .boolean) hx hb hr rfl (fun t ht hW => ⟨rfl, by rw [ht]; exact hP, hS.F ht⟩) hS.2.2 d_m_remove_18
end
section
theorem d_m_lookup_0 : decode b_m_lookup 0 = .ok (.aload_n 0, 1) := by decide +kernel
theorem d_m_lookup_1 : decode b_m_lookup 1 = .ok (.iconst 0, 1) := by decide +kernel
theorem d_m_lookup_2 : decode b_m_lookup 2 = .ok (.putfield 25, 3) := by decide +kernel
theorem d_m_lookup_5 : decode b_m_lookup 5 = .ok (.aload_n 0, 1) := by decide +kernel
theorem d_m_lookup_6 : decode b_m_lookup 6 = .ok (.iload_n 1, 1) := by decide +kernel
theorem d_m_lookup_7 : decode b_m_lookup 7 = .ok (.invokevirtual 52, 3) := by decide +kernel
theorem d_m_lookup_10 : decode b_m_lookup 10 = .ok (.istore_n 2, 1) := by decide +kernel
theorem d_m_lookup_11 : decode b_m_lookup 11 = .ok (.iload_n 2, 1) := by decide +kernel
theorem d_m_lookup_12 : decode b_m_lookup 12 = .ok (.iconst (-1), 1) := by decide +kernel
theorem d_m_lookup_13 : decode b_m_lookup 13 = .ok (.if_icmp .ne 7, 3) := by decide +kernel
theorem d_m_lookup_16 : decode b_m_lookup 16 = .ok (.iconst (-1), 1) := by decide +kernel
theorem d_m_lookup_17 : decode b_m_lookup 17 = .ok (.goto 9, 3) := by decide +kernel
theorem d_m_lookup_20 : decode b_m_lookup 20 = .ok (.aload_n 0, 1) := by decide +kernel
theorem d_m_lookup_21 : decode b_m_lookup 21 = .ok (.getfield 16, 3) := by decide +kernel
theorem d_m_lookup_24 : decode b_m_lookup 24 = .ok (.iload_n 2, 1) := by decide +kernel
theorem d_m_lookup_25 : decode b_m_lookup 25 = .ok (.iaload, 1) := by decide +kernel
theorem d_m_lookup_26 : decode b_m_lookup 26 = .ok (.ireturn, 1) := by decide +kernel
set_option maxHeartbeats 4000000 in
set_option maxRecDepth 100000 in
theorem c_m_lookup (l : Launch) (D : va_G) (a : Nat → Nat) (cA : ClassId) (S : MS) (x1 : Int32) (r : Int32) (S' : MS) (h : j_m_lookup S x1 = some (r, S')) : Met l y_m_lookup (Cond.code y_m_lookup b_m_lookup 3 (some .int) :: gT) (rmL 3) (mPcM D a cA S [.ref (a 0), .int x1]) (mQcM D a cA (some (.int r)) S') 0 0 (aM a) := by
  refine M_metM (by decide) (Nat.le_of_ble_eq_true rfl) ?_
  intro p e s m below meth c ls E hr hlocks hP hK hD hS hl
  have E : CallFix p m c b_m_lookup 3 s _ gT R_M := E
  have hx := E.1
  have hb := E.2.1
  have hl : lv_has ls 3 [(0, .ref (a 0)), (1, .int x1)] := hl
  unfold j_m_lookup at h
  refine lv_aload_n hx hb d_m_lookup_0 rfl (lv_at hl 0 rfl) ?_
  refine lv_iconst (v := 0) hx hb d_m_lookup_1 (by decide) ?_
  refine mp_K E hK hD hP hS d_m_lookup_2 (fun H locs hP hS => ?_)
  refine lv_aload_n hx hb d_m_lookup_5 rfl (lv_at hl 0 rfl) ?_
  refine lv_iload_n hx hb d_m_lookup_6 rfl (lv_at hl 1 rfl) ?_
  obtain ⟨v2, e1, h⟩ := Option.bind_eq_some_iff.mp h
  refine M_callR (As := [.int x1]) (rest := []) (r := v2) E hK hP (c_m_longest l D a cA (vK S 0) x1 v2 e1) k_m_longest lk_m_52 ⟨Nat.le_of_ble_eq_true rfl, Nat.le_of_ble_eq_true rfl⟩ rfl hl.1 rfl (Nat.le_of_ble_eq_true rfl) d_m_lookup_7 ⟨Nat.le_of_ble_eq_true rfl, Nat.le_of_ble_eq_true rfl⟩ ?_
  refine lv_istore_n (lv' := [(2, .int v2), (0, .ref (a 0)), (1, .int x1)]) hx hb d_m_lookup_10 rfl hl (by decide) rfl (fun ls hl => ?_)
  refine lv_iload_n hx hb d_m_lookup_11 rfl (lv_at hl 0 rfl) ?_
  refine lv_iconst (v := (-1)) hx hb d_m_lookup_12 (by decide) ?_
  refine lv_icmp_ne (tgt := 20) hx hb d_m_lookup_13 (by decide) (fun c3 => ?_) (fun c3 => ?_)
  · rw [if_neg c3] at h
    refine lv_aload_n hx hb d_m_lookup_20 rfl (lv_at hl 1 rfl) ?_
    refine mg_H E hK hP d_m_lookup_21 ?_
    refine lv_iload_n hx hb d_m_lookup_24 rfl (lv_at hl 0 rfl) ?_
    obtain ⟨g4, h⟩ := gd_some h
    refine ma_H E hK hP g4 d_m_lookup_25 ?_
    cases h
    exact W.iret (v := _) hx hb hr (fun t ht hW => ⟨rfl, by rw [ht]; exact hP, hS.F ht⟩) hS.2.2 d_m_lookup_26
  · rw [if_pos c3] at h
    refine lv_iconst (v := (-1)) hx hb d_m_lookup_16 (by decide) ?_
    refine lv_goto (tgt := 26) hx hb d_m_lookup_17 (by decide) ?_
    cases h
    exact W.iret (v := _) hx hb hr (fun t ht hW => ⟨rfl, by rw [ht]; exact hP, hS.F ht⟩) hS.2.2 d_m_lookup_26
theorem d_m_lookupLen_0 : decode b_m_lookupLen 0 = .ok (.aload_n 0, 1) := by decide +kernel
theorem d_m_lookupLen_1 : decode b_m_lookupLen 1 = .ok (.iconst 0, 1) := by decide +kernel
theorem d_m_lookupLen_2 : decode b_m_lookupLen 2 = .ok (.putfield 25, 3) := by decide +kernel
theorem d_m_lookupLen_5 : decode b_m_lookupLen 5 = .ok (.aload_n 0, 1) := by decide +kernel
theorem d_m_lookupLen_6 : decode b_m_lookupLen 6 = .ok (.iload_n 1, 1) := by decide +kernel
theorem d_m_lookupLen_7 : decode b_m_lookupLen 7 = .ok (.invokevirtual 52, 3) := by decide +kernel
theorem d_m_lookupLen_10 : decode b_m_lookupLen 10 = .ok (.istore_n 2, 1) := by decide +kernel
theorem d_m_lookupLen_11 : decode b_m_lookupLen 11 = .ok (.iload_n 2, 1) := by decide +kernel
theorem d_m_lookupLen_12 : decode b_m_lookupLen 12 = .ok (.iconst (-1), 1) := by decide +kernel
theorem d_m_lookupLen_13 : decode b_m_lookupLen 13 = .ok (.if_icmp .ne 7, 3) := by decide +kernel
theorem d_m_lookupLen_16 : decode b_m_lookupLen 16 = .ok (.iconst (-1), 1) := by decide +kernel
theorem d_m_lookupLen_17 : decode b_m_lookupLen 17 = .ok (.goto 9, 3) := by decide +kernel
theorem d_m_lookupLen_20 : decode b_m_lookupLen 20 = .ok (.aload_n 0, 1) := by decide +kernel
theorem d_m_lookupLen_21 : decode b_m_lookupLen 21 = .ok (.getfield 13, 3) := by decide +kernel
theorem d_m_lookupLen_24 : decode b_m_lookupLen 24 = .ok (.iload_n 2, 1) := by decide +kernel
theorem d_m_lookupLen_25 : decode b_m_lookupLen 25 = .ok (.iaload, 1) := by decide +kernel
theorem d_m_lookupLen_26 : decode b_m_lookupLen 26 = .ok (.ireturn, 1) := by decide +kernel
set_option maxHeartbeats 4000000 in
set_option maxRecDepth 100000 in
theorem c_m_lookupLen (l : Launch) (D : va_G) (a : Nat → Nat) (cA : ClassId) (S : MS) (x1 : Int32) (r : Int32) (S' : MS) (h : j_m_lookupLen S x1 = some (r, S')) : Met l y_m_lookupLen (Cond.code y_m_lookupLen b_m_lookupLen 3 (some .int) :: gT) (rmL 3) (mPcM D a cA S [.ref (a 0), .int x1]) (mQcM D a cA (some (.int r)) S') 0 0 (aM a) := by
  refine M_metM (by decide) (Nat.le_of_ble_eq_true rfl) ?_
  intro p e s m below meth c ls E hr hlocks hP hK hD hS hl
  have E : CallFix p m c b_m_lookupLen 3 s _ gT R_M := E
  have hx := E.1
  have hb := E.2.1
  have hl : lv_has ls 3 [(0, .ref (a 0)), (1, .int x1)] := hl
  unfold j_m_lookupLen at h
  refine lv_aload_n hx hb d_m_lookupLen_0 rfl (lv_at hl 0 rfl) ?_
  refine lv_iconst (v := 0) hx hb d_m_lookupLen_1 (by decide) ?_
  refine mp_K E hK hD hP hS d_m_lookupLen_2 (fun H locs hP hS => ?_)
  refine lv_aload_n hx hb d_m_lookupLen_5 rfl (lv_at hl 0 rfl) ?_
  refine lv_iload_n hx hb d_m_lookupLen_6 rfl (lv_at hl 1 rfl) ?_
  obtain ⟨v2, e1, h⟩ := Option.bind_eq_some_iff.mp h
  refine M_callR (As := [.int x1]) (rest := []) (r := v2) E hK hP (c_m_longest l D a cA (vK S 0) x1 v2 e1) k_m_longest lk_m_52 ⟨Nat.le_of_ble_eq_true rfl, Nat.le_of_ble_eq_true rfl⟩ rfl hl.1 rfl (Nat.le_of_ble_eq_true rfl) d_m_lookupLen_7 ⟨Nat.le_of_ble_eq_true rfl, Nat.le_of_ble_eq_true rfl⟩ ?_
  refine lv_istore_n (lv' := [(2, .int v2), (0, .ref (a 0)), (1, .int x1)]) hx hb d_m_lookupLen_10 rfl hl (by decide) rfl (fun ls hl => ?_)
  refine lv_iload_n hx hb d_m_lookupLen_11 rfl (lv_at hl 0 rfl) ?_
  refine lv_iconst (v := (-1)) hx hb d_m_lookupLen_12 (by decide) ?_
  refine lv_icmp_ne (tgt := 20) hx hb d_m_lookupLen_13 (by decide) (fun c3 => ?_) (fun c3 => ?_)
  · rw [if_neg c3] at h
    refine lv_aload_n hx hb d_m_lookupLen_20 rfl (lv_at hl 1 rfl) ?_
    refine mg_L E hK hP d_m_lookupLen_21 ?_
    refine lv_iload_n hx hb d_m_lookupLen_24 rfl (lv_at hl 0 rfl) ?_
    obtain ⟨g4, h⟩ := gd_some h
    refine ma_L E hK hP g4 d_m_lookupLen_25 ?_
    cases h
    exact W.iret (v := _) hx hb hr (fun t ht hW => ⟨rfl, by rw [ht]; exact hP, hS.F ht⟩) hS.2.2 d_m_lookupLen_26
  · rw [if_pos c3] at h
    refine lv_iconst (v := (-1)) hx hb d_m_lookupLen_16 (by decide) ?_
    refine lv_goto (tgt := 26) hx hb d_m_lookupLen_17 (by decide) ?_
    cases h
    exact W.iret (v := _) hx hb hr (fun t ht hW => ⟨rfl, by rw [ht]; exact hP, hS.F ht⟩) hS.2.2 d_m_lookupLen_26
theorem d_m_exact_0 : decode b_m_exact 0 = .ok (.aload_n 0, 1) := by decide +kernel
theorem d_m_exact_1 : decode b_m_exact 1 = .ok (.iconst 0, 1) := by decide +kernel
theorem d_m_exact_2 : decode b_m_exact 2 = .ok (.putfield 25, 3) := by decide +kernel
theorem d_m_exact_5 : decode b_m_exact 5 = .ok (.aload_n 0, 1) := by decide +kernel
theorem d_m_exact_6 : decode b_m_exact 6 = .ok (.iload_n 1, 1) := by decide +kernel
theorem d_m_exact_7 : decode b_m_exact 7 = .ok (.iload_n 2, 1) := by decide +kernel
theorem d_m_exact_8 : decode b_m_exact 8 = .ok (.invokevirtual 41, 3) := by decide +kernel
theorem d_m_exact_11 : decode b_m_exact 11 = .ok (.istore_n 3, 1) := by decide +kernel
theorem d_m_exact_12 : decode b_m_exact 12 = .ok (.iload_n 3, 1) := by decide +kernel
theorem d_m_exact_13 : decode b_m_exact 13 = .ok (.iconst (-1), 1) := by decide +kernel
theorem d_m_exact_14 : decode b_m_exact 14 = .ok (.if_icmp .ne 7, 3) := by decide +kernel
theorem d_m_exact_17 : decode b_m_exact 17 = .ok (.iconst (-1), 1) := by decide +kernel
theorem d_m_exact_18 : decode b_m_exact 18 = .ok (.goto 9, 3) := by decide +kernel
theorem d_m_exact_21 : decode b_m_exact 21 = .ok (.aload_n 0, 1) := by decide +kernel
theorem d_m_exact_22 : decode b_m_exact 22 = .ok (.getfield 16, 3) := by decide +kernel
theorem d_m_exact_25 : decode b_m_exact 25 = .ok (.iload_n 3, 1) := by decide +kernel
theorem d_m_exact_26 : decode b_m_exact 26 = .ok (.iaload, 1) := by decide +kernel
theorem d_m_exact_27 : decode b_m_exact 27 = .ok (.ireturn, 1) := by decide +kernel
set_option maxHeartbeats 4000000 in
set_option maxRecDepth 100000 in
theorem c_m_exact (l : Launch) (D : va_G) (a : Nat → Nat) (cA : ClassId) (S : MS) (x1 x2 : Int32) (r : Int32) (S' : MS) (h : j_m_exact S x1 x2 = some (r, S')) : Met l y_m_exact (Cond.code y_m_exact b_m_exact 4 (some .int) :: gT) (rmL 1) (mPcM D a cA S [.ref (a 0), .int x1, .int x2]) (mQcM D a cA (some (.int r)) S') 0 0 (aM a) := by
  refine M_metM (by decide) (Nat.le_of_ble_eq_true rfl) ?_
  intro p e s m below meth c ls E hr hlocks hP hK hD hS hl
  have E : CallFix p m c b_m_exact 4 s _ gT R_M := E
  have hx := E.1
  have hb := E.2.1
  have hl : lv_has ls 4 [(0, .ref (a 0)), (1, .int x1), (2, .int x2)] := hl
  unfold j_m_exact at h
  refine lv_aload_n hx hb d_m_exact_0 rfl (lv_at hl 0 rfl) ?_
  refine lv_iconst (v := 0) hx hb d_m_exact_1 (by decide) ?_
  refine mp_K E hK hD hP hS d_m_exact_2 (fun H locs hP hS => ?_)
  refine lv_aload_n hx hb d_m_exact_5 rfl (lv_at hl 0 rfl) ?_
  refine lv_iload_n hx hb d_m_exact_6 rfl (lv_at hl 1 rfl) ?_
  refine lv_iload_n hx hb d_m_exact_7 rfl (lv_at hl 2 rfl) ?_
  obtain ⟨v2, e1, h⟩ := Option.bind_eq_some_iff.mp h
  refine M_callR (As := [.int x1, .int x2]) (rest := []) (r := v2) E hK hP (c_m_find l D a cA (vK S 0) x1 x2 v2 e1) k_m_find lk_m_41 ⟨Nat.le_of_ble_eq_true rfl, Nat.le_of_ble_eq_true rfl⟩ rfl hl.1 rfl (Nat.le_of_ble_eq_true rfl) d_m_exact_8 ⟨Nat.le_of_ble_eq_true rfl, Nat.le_of_ble_eq_true rfl⟩ ?_
  refine lv_istore_n (lv' := [(3, .int v2), (0, .ref (a 0)), (1, .int x1), (2, .int x2)]) hx hb d_m_exact_11 rfl hl (by decide) rfl (fun ls hl => ?_)
  refine lv_iload_n hx hb d_m_exact_12 rfl (lv_at hl 0 rfl) ?_
  refine lv_iconst (v := (-1)) hx hb d_m_exact_13 (by decide) ?_
  refine lv_icmp_ne (tgt := 21) hx hb d_m_exact_14 (by decide) (fun c3 => ?_) (fun c3 => ?_)
  · rw [if_neg c3] at h
    refine lv_aload_n hx hb d_m_exact_21 rfl (lv_at hl 1 rfl) ?_
    refine mg_H E hK hP d_m_exact_22 ?_
    refine lv_iload_n hx hb d_m_exact_25 rfl (lv_at hl 0 rfl) ?_
    obtain ⟨g4, h⟩ := gd_some h
    refine ma_H E hK hP g4 d_m_exact_26 ?_
    cases h
    exact W.iret (v := _) hx hb hr (fun t ht hW => ⟨rfl, by rw [ht]; exact hP, hS.F ht⟩) hS.2.2 d_m_exact_27
  · rw [if_pos c3] at h
    refine lv_iconst (v := (-1)) hx hb d_m_exact_17 (by decide) ?_
    refine lv_goto (tgt := 27) hx hb d_m_exact_18 (by decide) ?_
    cases h
    exact W.iret (v := _) hx hb hr (fun t ht hW => ⟨rfl, by rw [ht]; exact hP, hS.F ht⟩) hS.2.2 d_m_exact_27
theorem d_m_under_0 : decode b_m_under 0 = .ok (.aload_n 0, 1) := by decide +kernel
theorem d_m_under_1 : decode b_m_under 1 = .ok (.iconst 0, 1) := by decide +kernel
theorem d_m_under_2 : decode b_m_under 2 = .ok (.putfield 25, 3) := by decide +kernel
theorem d_m_under_5 : decode b_m_under 5 = .ok (.iload_n 1, 1) := by decide +kernel
theorem d_m_under_6 : decode b_m_under 6 = .ok (.iload_n 2, 1) := by decide +kernel
theorem d_m_under_7 : decode b_m_under 7 = .ok (.invokestatic 37, 3) := by decide +kernel
theorem d_m_under_10 : decode b_m_under 10 = .ok (.ifCond .ne 5, 3) := by decide +kernel
theorem d_m_under_13 : decode b_m_under 13 = .ok (.iconst (-1), 1) := by decide +kernel
theorem d_m_under_14 : decode b_m_under 14 = .ok (.ireturn, 1) := by decide +kernel
theorem d_m_under_15 : decode b_m_under 15 = .ok (.iconst 0, 1) := by decide +kernel
theorem d_m_under_16 : decode b_m_under 16 = .ok (.istore_n 3, 1) := by decide +kernel
theorem d_m_under_17 : decode b_m_under 17 = .ok (.iconst 0, 1) := by decide +kernel
theorem d_m_under_18 : decode b_m_under 18 = .ok (.istore 4, 2) := by decide +kernel
theorem d_m_under_20 : decode b_m_under 20 = .ok (.iload 4, 2) := by decide +kernel
theorem d_m_under_22 : decode b_m_under 22 = .ok (.aload_n 0, 1) := by decide +kernel
theorem d_m_under_23 : decode b_m_under 23 = .ok (.getfield 29, 3) := by decide +kernel
theorem d_m_under_26 : decode b_m_under 26 = .ok (.if_icmp .ge 43, 3) := by decide +kernel
theorem d_m_under_29 : decode b_m_under 29 = .ok (.iload_n 3, 1) := by decide +kernel
theorem d_m_under_30 : decode b_m_under 30 = .ok (.aload_n 0, 1) := by decide +kernel
theorem d_m_under_31 : decode b_m_under 31 = .ok (.getfield 13, 3) := by decide +kernel
theorem d_m_under_34 : decode b_m_under 34 = .ok (.iload 4, 2) := by decide +kernel
theorem d_m_under_36 : decode b_m_under 36 = .ok (.iaload, 1) := by decide +kernel
theorem d_m_under_37 : decode b_m_under 37 = .ok (.iload_n 2, 1) := by decide +kernel
theorem d_m_under_38 : decode b_m_under 38 = .ok (.if_icmp .lt 22, 3) := by decide +kernel
theorem d_m_under_41 : decode b_m_under 41 = .ok (.aload_n 0, 1) := by decide +kernel
theorem d_m_under_42 : decode b_m_under 42 = .ok (.getfield 7, 3) := by decide +kernel
theorem d_m_under_45 : decode b_m_under 45 = .ok (.iload 4, 2) := by decide +kernel
theorem d_m_under_47 : decode b_m_under 47 = .ok (.iaload, 1) := by decide +kernel
theorem d_m_under_48 : decode b_m_under 48 = .ok (.iload_n 1, 1) := by decide +kernel
theorem d_m_under_49 : decode b_m_under 49 = .ok (.iload_n 2, 1) := by decide +kernel
theorem d_m_under_50 : decode b_m_under 50 = .ok (.invokestatic 49, 3) := by decide +kernel
theorem d_m_under_53 : decode b_m_under 53 = .ok (.ifCond .eq 7, 3) := by decide +kernel
theorem d_m_under_56 : decode b_m_under 56 = .ok (.iconst 1, 1) := by decide +kernel
theorem d_m_under_57 : decode b_m_under 57 = .ok (.goto 4, 3) := by decide +kernel
theorem d_m_under_60 : decode b_m_under 60 = .ok (.iconst 0, 1) := by decide +kernel
theorem d_m_under_61 : decode b_m_under 61 = .ok (.iadd, 1) := by decide +kernel
theorem d_m_under_62 : decode b_m_under 62 = .ok (.istore_n 3, 1) := by decide +kernel
theorem d_m_under_63 : decode b_m_under 63 = .ok (.iinc 4 1, 3) := by decide +kernel
theorem d_m_under_66 : decode b_m_under 66 = .ok (.goto (-46), 3) := by decide +kernel
theorem d_m_under_69 : decode b_m_under 69 = .ok (.iload_n 3, 1) := by decide +kernel
theorem d_m_under_70 : decode b_m_under 70 = .ok (.ireturn, 1) := by decide +kernel
set_option maxHeartbeats 4000000 in
set_option maxRecDepth 100000 in
theorem wl_m_under_20 {p : Program} {l : Launch} {e : Env} {s : State} {m : MethodId} {args : Array Value} {below : List Frame} {meth : Method} {c : Code} {D : va_G} {a : Nat → Nat} {cA : ClassId} {S' : MS} {r : Int32} {x1 x2 : Int32} (E : CallFix p m c b_m_under 5 s args gT R_M) (hr : meth.sig.returnType = some .int) (hlocks : meth.locks = false) (hK : va_K D classes [(cA, .int)] s) (hD : ∀ S : MS, va_D (aM a) (wM a cA S)) : ∀ (k : Nat) (S : MS) (x3 x4 : Int32), L_m_under_20 x1 x2 k S x3 x4 = some (r, S') → ∀ (H : Heap) (locs : List Loc), va_P D classes (wM a cA S) H → va_S (aM a) s.heap H locs → ∀ ls : Array Slot, lv_has ls 5 [(0, .ref (a 0)), (1, .int x1), (2, .int x2), (3, .int x3), (4, .int x4)] → W p l e (rmL 2) s m args below meth c H locs 0 0 (MQ below (mQcM D a cA (some (.int r)) S') args s 0 0 (aM a)) (F0 m 20 ls []) := by
  have hx := E.1
  have hb := E.2.1
  intro k
  induction k with
  | zero =>
    intro S x3 x4 h
    cases h
  | succ k ih =>
    intro S x3 x4 h H locs hP hS ls hl
    rw [L_m_under_20] at h
    refine lv_iload hx hb d_m_under_20 (lv_at hl 4 rfl) ?_
    refine lv_aload_n hx hb d_m_under_22 rfl (lv_at hl 0 rfl) ?_
    refine mg_N E hK hP d_m_under_23 ?_
    refine lv_icmp_ge (tgt := 69) hx hb d_m_under_26 (by decide) (fun c4 => ?_) (fun c4 => ?_)
    · rw [if_pos c4] at h
      refine lv_iload_n hx hb d_m_under_69 rfl (lv_at hl 3 rfl) ?_
      cases h
      exact W.iret (v := _) hx hb hr (fun t ht hW => ⟨rfl, by rw [ht]; exact hP, hS.F ht⟩) hS.2.2 d_m_under_70
    · rw [if_neg c4] at h
      refine lv_iload_n hx hb d_m_under_29 rfl (lv_at hl 3 rfl) ?_
      refine lv_aload_n hx hb d_m_under_30 rfl (lv_at hl 0 rfl) ?_
      refine mg_L E hK hP d_m_under_31 ?_
      refine lv_iload hx hb d_m_under_34 (lv_at hl 4 rfl) ?_
      obtain ⟨g5, h⟩ := gd_some h
      refine ma_L E hK hP g5 d_m_under_36 ?_
      refine lv_iload_n hx hb d_m_under_37 rfl (lv_at hl 2 rfl) ?_
      refine lv_icmp_lt (tgt := 60) hx hb d_m_under_38 (by decide) (fun c6 => ?_) (fun c6 => ?_)
      · rw [if_pos c6] at h
        refine lv_iconst (v := 0) hx hb d_m_under_60 (by decide) ?_
        refine lv_iadd hx hb d_m_under_61 ?_
        refine lv_istore_n (lv' := [(3, .int (x3 + 0)), (0, .ref (a 0)), (1, .int x1), (2, .int x2), (4, .int x4)]) hx hb d_m_under_62 rfl hl (by decide) rfl (fun ls hl => ?_)
        refine lv_iinc (v := x4 + 1) (lv' := [(4, .int (x4 + 1)), (3, .int (x3 + 0)), (0, .ref (a 0)), (1, .int x1), (2, .int x2)]) hx hb d_m_under_63 hl (k := 4) rfl rfl (by decide) rfl (fun ls hl => ?_)
        refine lv_goto (tgt := 20) hx hb d_m_under_66 (by decide) ?_
        exact ih S (x3 + 0) (x4 + 1) h _ _ hP hS ls (lv_sub hl [2, 3, 4, 1, 0] rfl)
      · rw [if_neg c6] at h
        refine lv_aload_n hx hb d_m_under_41 rfl (lv_at hl 0 rfl) ?_
        refine mg_B E hK hP d_m_under_42 ?_
        refine lv_iload hx hb d_m_under_45 (lv_at hl 4 rfl) ?_
        refine ma_B E hK hP g5 d_m_under_47 ?_
        refine lv_iload_n hx hb d_m_under_48 rfl (lv_at hl 1 rfl) ?_
        refine lv_iload_n hx hb d_m_under_49 rfl (lv_at hl 2 rfl) ?_
        obtain ⟨v8, e7, h⟩ := Option.bind_eq_some_iff.mp h
        refine S_call (As := [.int (mB S (cl x4)), .int x1, .int x2]) (rest := [.int x3]) (r := v8) E (c_m_begins l (mB S (cl x4)) x1 x2 v8 e7) k_m_begins lk_m_49 ⟨Nat.le_of_ble_eq_true rfl, Nat.le_of_ble_eq_true rfl⟩ rfl hl.1 rfl (Nat.le_of_ble_eq_true rfl) d_m_under_50 ⟨Nat.le_of_ble_eq_true rfl, Nat.le_of_ble_eq_true rfl⟩ ?_
        refine lv_if_eq (tgt := 60) hx hb d_m_under_53 (by decide) (fun c9 => ?_) (fun c9 => ?_)
        · rw [if_pos c9] at h
          refine lv_iconst (v := 0) hx hb d_m_under_60 (by decide) ?_
          refine lv_iadd hx hb d_m_under_61 ?_
          refine lv_istore_n (lv' := [(3, .int (x3 + 0)), (0, .ref (a 0)), (1, .int x1), (2, .int x2), (4, .int x4)]) hx hb d_m_under_62 rfl hl (by decide) rfl (fun ls hl => ?_)
          refine lv_iinc (v := x4 + 1) (lv' := [(4, .int (x4 + 1)), (3, .int (x3 + 0)), (0, .ref (a 0)), (1, .int x1), (2, .int x2)]) hx hb d_m_under_63 hl (k := 4) rfl rfl (by decide) rfl (fun ls hl => ?_)
          refine lv_goto (tgt := 20) hx hb d_m_under_66 (by decide) ?_
          exact ih S (x3 + 0) (x4 + 1) h _ _ hP hS ls (lv_sub hl [2, 3, 4, 1, 0] rfl)
        · rw [if_neg c9] at h
          refine lv_iconst (v := 1) hx hb d_m_under_56 (by decide) ?_
          refine lv_goto (tgt := 61) hx hb d_m_under_57 (by decide) ?_
          refine lv_iadd hx hb d_m_under_61 ?_
          refine lv_istore_n (lv' := [(3, .int (x3 + 1)), (0, .ref (a 0)), (1, .int x1), (2, .int x2), (4, .int x4)]) hx hb d_m_under_62 rfl hl (by decide) rfl (fun ls hl => ?_)
          refine lv_iinc (v := x4 + 1) (lv' := [(4, .int (x4 + 1)), (3, .int (x3 + 1)), (0, .ref (a 0)), (1, .int x1), (2, .int x2)]) hx hb d_m_under_63 hl (k := 4) rfl rfl (by decide) rfl (fun ls hl => ?_)
          refine lv_goto (tgt := 20) hx hb d_m_under_66 (by decide) ?_
          exact ih S (x3 + 1) (x4 + 1) h _ _ hP hS ls (lv_sub hl [2, 3, 4, 1, 0] rfl)
set_option maxHeartbeats 4000000 in
set_option maxRecDepth 100000 in
theorem c_m_under (l : Launch) (D : va_G) (a : Nat → Nat) (cA : ClassId) (S : MS) (x1 x2 : Int32) (r : Int32) (S' : MS) (h : j_m_under S x1 x2 = some (r, S')) : Met l y_m_under (Cond.code y_m_under b_m_under 5 (some .int) :: gT) (rmL 2) (mPcM D a cA S [.ref (a 0), .int x1, .int x2]) (mQcM D a cA (some (.int r)) S') 0 0 (aM a) := by
  refine M_metM (by decide) (Nat.le_of_ble_eq_true rfl) ?_
  intro p e s m below meth c ls E hr hlocks hP hK hD hS hl
  have E : CallFix p m c b_m_under 5 s _ gT R_M := E
  have hx := E.1
  have hb := E.2.1
  have hl : lv_has ls 5 [(0, .ref (a 0)), (1, .int x1), (2, .int x2)] := hl
  unfold j_m_under at h
  refine lv_aload_n hx hb d_m_under_0 rfl (lv_at hl 0 rfl) ?_
  refine lv_iconst (v := 0) hx hb d_m_under_1 (by decide) ?_
  refine mp_K E hK hD hP hS d_m_under_2 (fun H locs hP hS => ?_)
  refine lv_iload_n hx hb d_m_under_5 rfl (lv_at hl 1 rfl) ?_
  refine lv_iload_n hx hb d_m_under_6 rfl (lv_at hl 2 rfl) ?_
  obtain ⟨v2, e1, h⟩ := Option.bind_eq_some_iff.mp h
  refine S_call (As := [.int x1, .int x2]) (rest := []) (r := v2) E (c_m_isPrefix l x1 x2 v2 e1) k_m_isPrefix lk_m_37 ⟨Nat.le_of_ble_eq_true rfl, Nat.le_of_ble_eq_true rfl⟩ rfl hl.1 rfl (Nat.le_of_ble_eq_true rfl) d_m_under_7 ⟨Nat.le_of_ble_eq_true rfl, Nat.le_of_ble_eq_true rfl⟩ ?_
  refine lv_if_ne (tgt := 15) hx hb d_m_under_10 (by decide) (fun c3 => ?_) (fun c3 => ?_)
  · rw [if_neg c3] at h
    refine lv_iconst (v := 0) hx hb d_m_under_15 (by decide) ?_
    refine lv_istore_n (lv' := [(3, .int 0), (0, .ref (a 0)), (1, .int x1), (2, .int x2)]) hx hb d_m_under_16 rfl hl (by decide) rfl (fun ls hl => ?_)
    refine lv_iconst (v := 0) hx hb d_m_under_17 (by decide) ?_
    refine lv_istore (lv' := [(4, .int 0), (3, .int 0), (0, .ref (a 0)), (1, .int x1), (2, .int x2)]) hx hb d_m_under_18 hl (by decide) rfl (fun ls hl => ?_)
    exact wl_m_under_20 E hr hlocks hK hD FU (vK S 0) 0 0 h _ _ hP hS ls (lv_sub hl [2, 3, 4, 1, 0] rfl)
  · rw [if_pos c3] at h
    refine lv_iconst (v := (-1)) hx hb d_m_under_13 (by decide) ?_
    cases h
    exact W.iret (v := _) hx hb hr (fun t ht hW => ⟨rfl, by rw [ht]; exact hP, hS.F ht⟩) hS.2.2 d_m_under_14
theorem d_m_route_0 : decode b_m_route 0 = .ok (.aload_n 0, 1) := by decide +kernel
theorem d_m_route_1 : decode b_m_route 1 = .ok (.iconst 0, 1) := by decide +kernel
theorem d_m_route_2 : decode b_m_route 2 = .ok (.putfield 25, 3) := by decide +kernel
theorem d_m_route_5 : decode b_m_route 5 = .ok (.iload_n 1, 1) := by decide +kernel
theorem d_m_route_6 : decode b_m_route 6 = .ok (.ifCond .lt 11, 3) := by decide +kernel
theorem d_m_route_9 : decode b_m_route 9 = .ok (.iload_n 1, 1) := by decide +kernel
theorem d_m_route_10 : decode b_m_route 10 = .ok (.aload_n 0, 1) := by decide +kernel
theorem d_m_route_11 : decode b_m_route 11 = .ok (.getfield 29, 3) := by decide +kernel
theorem d_m_route_14 : decode b_m_route 14 = .ok (.if_icmp .lt 5, 3) := by decide +kernel
theorem d_m_route_17 : decode b_m_route 17 = .ok (.iconst 0, 1) := by decide +kernel
theorem d_m_route_18 : decode b_m_route 18 = .ok (.ireturn, 1) := by decide +kernel
theorem d_m_route_19 : decode b_m_route 19 = .ok (.iload_n 2, 1) := by decide +kernel
theorem d_m_route_20 : decode b_m_route 20 = .ok (.ifCond .ne 12, 3) := by decide +kernel
theorem d_m_route_23 : decode b_m_route 23 = .ok (.aload_n 0, 1) := by decide +kernel
theorem d_m_route_24 : decode b_m_route 24 = .ok (.getfield 7, 3) := by decide +kernel
theorem d_m_route_27 : decode b_m_route 27 = .ok (.iload_n 1, 1) := by decide +kernel
theorem d_m_route_28 : decode b_m_route 28 = .ok (.iaload, 1) := by decide +kernel
theorem d_m_route_29 : decode b_m_route 29 = .ok (.goto 32, 3) := by decide +kernel
theorem d_m_route_32 : decode b_m_route 32 = .ok (.iload_n 2, 1) := by decide +kernel
theorem d_m_route_33 : decode b_m_route 33 = .ok (.iconst 1, 1) := by decide +kernel
theorem d_m_route_34 : decode b_m_route 34 = .ok (.if_icmp .ne 12, 3) := by decide +kernel
theorem d_m_route_37 : decode b_m_route 37 = .ok (.aload_n 0, 1) := by decide +kernel
theorem d_m_route_38 : decode b_m_route 38 = .ok (.getfield 13, 3) := by decide +kernel
theorem d_m_route_41 : decode b_m_route 41 = .ok (.iload_n 1, 1) := by decide +kernel
theorem d_m_route_42 : decode b_m_route 42 = .ok (.iaload, 1) := by decide +kernel
theorem d_m_route_43 : decode b_m_route 43 = .ok (.goto 18, 3) := by decide +kernel
theorem d_m_route_46 : decode b_m_route 46 = .ok (.iload_n 2, 1) := by decide +kernel
theorem d_m_route_47 : decode b_m_route 47 = .ok (.iconst 2, 1) := by decide +kernel
theorem d_m_route_48 : decode b_m_route 48 = .ok (.if_icmp .ne 12, 3) := by decide +kernel
theorem d_m_route_51 : decode b_m_route 51 = .ok (.aload_n 0, 1) := by decide +kernel
theorem d_m_route_52 : decode b_m_route 52 = .ok (.getfield 16, 3) := by decide +kernel
theorem d_m_route_55 : decode b_m_route 55 = .ok (.iload_n 1, 1) := by decide +kernel
theorem d_m_route_56 : decode b_m_route 56 = .ok (.iaload, 1) := by decide +kernel
theorem d_m_route_57 : decode b_m_route 57 = .ok (.goto 4, 3) := by decide +kernel
theorem d_m_route_60 : decode b_m_route 60 = .ok (.iconst 0, 1) := by decide +kernel
theorem d_m_route_61 : decode b_m_route 61 = .ok (.ireturn, 1) := by decide +kernel
set_option maxHeartbeats 4000000 in
set_option maxRecDepth 100000 in
theorem c_m_route (l : Launch) (D : va_G) (a : Nat → Nat) (cA : ClassId) (S : MS) (x1 x2 : Int32) (r : Int32) (S' : MS) (h : j_m_route S x1 x2 = some (r, S')) : Met l y_m_route (Cond.code y_m_route b_m_route 3 (some .int) :: gT) (rmL 0) (mPcM D a cA S [.ref (a 0), .int x1, .int x2]) (mQcM D a cA (some (.int r)) S') 0 0 (aM a) := by
  refine M_metM (by decide) (Nat.le_of_ble_eq_true rfl) ?_
  intro p e s m below meth c ls E hr hlocks hP hK hD hS hl
  have E : CallFix p m c b_m_route 3 s _ gT R_M := E
  have hx := E.1
  have hb := E.2.1
  have hl : lv_has ls 3 [(0, .ref (a 0)), (1, .int x1), (2, .int x2)] := hl
  unfold j_m_route at h
  refine lv_aload_n hx hb d_m_route_0 rfl (lv_at hl 0 rfl) ?_
  refine lv_iconst (v := 0) hx hb d_m_route_1 (by decide) ?_
  refine mp_K E hK hD hP hS d_m_route_2 (fun H locs hP hS => ?_)
  refine lv_iload_n hx hb d_m_route_5 rfl (lv_at hl 1 rfl) ?_
  refine lv_if_lt (tgt := 17) hx hb d_m_route_6 (by decide) (fun c1 => ?_) (fun c1 => ?_)
  · rw [if_pos c1] at h
    refine lv_iconst (v := 0) hx hb d_m_route_17 (by decide) ?_
    cases h
    exact W.iret (v := _) hx hb hr (fun t ht hW => ⟨rfl, by rw [ht]; exact hP, hS.F ht⟩) hS.2.2 d_m_route_18
  · rw [if_neg c1] at h
    refine lv_iload_n hx hb d_m_route_9 rfl (lv_at hl 1 rfl) ?_
    refine lv_aload_n hx hb d_m_route_10 rfl (lv_at hl 0 rfl) ?_
    refine mg_N E hK hP d_m_route_11 ?_
    refine lv_icmp_lt (tgt := 19) hx hb d_m_route_14 (by decide) (fun c2 => ?_) (fun c2 => ?_)
    · rw [if_pos c2] at h
      refine lv_iload_n hx hb d_m_route_19 rfl (lv_at hl 2 rfl) ?_
      refine lv_if_ne (tgt := 32) hx hb d_m_route_20 (by decide) (fun c3 => ?_) (fun c3 => ?_)
      · rw [if_neg c3] at h
        refine lv_iload_n hx hb d_m_route_32 rfl (lv_at hl 2 rfl) ?_
        refine lv_iconst (v := 1) hx hb d_m_route_33 (by decide) ?_
        refine lv_icmp_ne (tgt := 46) hx hb d_m_route_34 (by decide) (fun c4 => ?_) (fun c4 => ?_)
        · rw [if_neg c4] at h
          refine lv_iload_n hx hb d_m_route_46 rfl (lv_at hl 2 rfl) ?_
          refine lv_iconst (v := 2) hx hb d_m_route_47 (by decide) ?_
          refine lv_icmp_ne (tgt := 60) hx hb d_m_route_48 (by decide) (fun c5 => ?_) (fun c5 => ?_)
          · rw [if_neg c5] at h
            refine lv_iconst (v := 0) hx hb d_m_route_60 (by decide) ?_
            cases h
            exact W.iret (v := _) hx hb hr (fun t ht hW => ⟨rfl, by rw [ht]; exact hP, hS.F ht⟩) hS.2.2 d_m_route_61
          · rw [if_pos c5] at h
            refine lv_aload_n hx hb d_m_route_51 rfl (lv_at hl 0 rfl) ?_
            refine mg_H E hK hP d_m_route_52 ?_
            refine lv_iload_n hx hb d_m_route_55 rfl (lv_at hl 1 rfl) ?_
            obtain ⟨g6, h⟩ := gd_some h
            refine ma_H E hK hP g6 d_m_route_56 ?_
            refine lv_goto (tgt := 61) hx hb d_m_route_57 (by decide) ?_
            cases h
            exact W.iret (v := _) hx hb hr (fun t ht hW => ⟨rfl, by rw [ht]; exact hP, hS.F ht⟩) hS.2.2 d_m_route_61
        · rw [if_pos c4] at h
          refine lv_aload_n hx hb d_m_route_37 rfl (lv_at hl 0 rfl) ?_
          refine mg_L E hK hP d_m_route_38 ?_
          refine lv_iload_n hx hb d_m_route_41 rfl (lv_at hl 1 rfl) ?_
          obtain ⟨g7, h⟩ := gd_some h
          refine ma_L E hK hP g7 d_m_route_42 ?_
          refine lv_goto (tgt := 61) hx hb d_m_route_43 (by decide) ?_
          cases h
          exact W.iret (v := _) hx hb hr (fun t ht hW => ⟨rfl, by rw [ht]; exact hP, hS.F ht⟩) hS.2.2 d_m_route_61
      · rw [if_pos c3] at h
        refine lv_aload_n hx hb d_m_route_23 rfl (lv_at hl 0 rfl) ?_
        refine mg_B E hK hP d_m_route_24 ?_
        refine lv_iload_n hx hb d_m_route_27 rfl (lv_at hl 1 rfl) ?_
        obtain ⟨g8, h⟩ := gd_some h
        refine ma_B E hK hP g8 d_m_route_28 ?_
        refine lv_goto (tgt := 61) hx hb d_m_route_29 (by decide) ?_
        cases h
        exact W.iret (v := _) hx hb hr (fun t ht hW => ⟨rfl, by rw [ht]; exact hP, hS.F ht⟩) hS.2.2 d_m_route_61
    · rw [if_neg c2] at h
      refine lv_iconst (v := 0) hx hb d_m_route_17 (by decide) ?_
      cases h
      exact W.iret (v := _) hx hb hr (fun t ht hW => ⟨rfl, by rw [ht]; exact hP, hS.F ht⟩) hS.2.2 d_m_route_18
theorem d_m_count_0 : decode b_m_count 0 = .ok (.aload_n 0, 1) := by decide +kernel
theorem d_m_count_1 : decode b_m_count 1 = .ok (.iconst 0, 1) := by decide +kernel
theorem d_m_count_2 : decode b_m_count 2 = .ok (.putfield 25, 3) := by decide +kernel
theorem d_m_count_5 : decode b_m_count 5 = .ok (.aload_n 0, 1) := by decide +kernel
theorem d_m_count_6 : decode b_m_count 6 = .ok (.getfield 29, 3) := by decide +kernel
theorem d_m_count_9 : decode b_m_count 9 = .ok (.ireturn, 1) := by decide +kernel
set_option maxHeartbeats 4000000 in
set_option maxRecDepth 100000 in
theorem c_m_count (l : Launch) (D : va_G) (a : Nat → Nat) (cA : ClassId) (S : MS) (r : Int32) (S' : MS) (h : j_m_count S = some (r, S')) : Met l y_m_count (Cond.code y_m_count b_m_count 1 (some .int) :: gT) (rmL 0) (mPcM D a cA S [.ref (a 0)]) (mQcM D a cA (some (.int r)) S') 0 0 (aM a) := by
  refine M_metM (by decide) (Nat.le_of_ble_eq_true rfl) ?_
  intro p e s m below meth c ls E hr hlocks hP hK hD hS hl
  have E : CallFix p m c b_m_count 1 s _ gT R_M := E
  have hx := E.1
  have hb := E.2.1
  have hl : lv_has ls 1 [(0, .ref (a 0))] := hl
  unfold j_m_count at h
  refine lv_aload_n hx hb d_m_count_0 rfl (lv_at hl 0 rfl) ?_
  refine lv_iconst (v := 0) hx hb d_m_count_1 (by decide) ?_
  refine mp_K E hK hD hP hS d_m_count_2 (fun H locs hP hS => ?_)
  refine lv_aload_n hx hb d_m_count_5 rfl (lv_at hl 0 rfl) ?_
  refine mg_N E hK hP d_m_count_6 ?_
  cases h
  exact W.iret (v := _) hx hb hr (fun t ht hW => ⟨rfl, by rw [ht]; exact hP, hS.F ht⟩) hS.2.2 d_m_count_9
theorem d_m_add_0 : decode b_m_add 0 = .ok (.iload_n 2, 1) := by decide +kernel
theorem d_m_add_1 : decode b_m_add 1 = .ok (.ifCond .ne 4, 3) := by decide +kernel
theorem d_m_add_4 : decode b_m_add 4 = .ok (.return_, 1) := by decide +kernel
theorem d_m_add_5 : decode b_m_add 5 = .ok (.iconst 0, 1) := by decide +kernel
theorem d_m_add_6 : decode b_m_add 6 = .ok (.istore_n 3, 1) := by decide +kernel
theorem d_m_add_7 : decode b_m_add 7 = .ok (.iload_n 3, 1) := by decide +kernel
theorem d_m_add_8 : decode b_m_add 8 = .ok (.aload_n 0, 1) := by decide +kernel
theorem d_m_add_9 : decode b_m_add 9 = .ok (.getfield 55, 3) := by decide +kernel
theorem d_m_add_12 : decode b_m_add 12 = .ok (.if_icmp .ge 30, 3) := by decide +kernel
theorem d_m_add_15 : decode b_m_add 15 = .ok (.aload_n 0, 1) := by decide +kernel
theorem d_m_add_16 : decode b_m_add 16 = .ok (.getfield 19, 3) := by decide +kernel
theorem d_m_add_19 : decode b_m_add 19 = .ok (.iload_n 3, 1) := by decide +kernel
theorem d_m_add_20 : decode b_m_add 20 = .ok (.iaload, 1) := by decide +kernel
theorem d_m_add_21 : decode b_m_add 21 = .ok (.iload_n 1, 1) := by decide +kernel
theorem d_m_add_22 : decode b_m_add 22 = .ok (.if_icmp .ne 14, 3) := by decide +kernel
theorem d_m_add_25 : decode b_m_add 25 = .ok (.aload_n 0, 1) := by decide +kernel
theorem d_m_add_26 : decode b_m_add 26 = .ok (.getfield 22, 3) := by decide +kernel
theorem d_m_add_29 : decode b_m_add 29 = .ok (.iload_n 3, 1) := by decide +kernel
theorem d_m_add_30 : decode b_m_add 30 = .ok (.iaload, 1) := by decide +kernel
theorem d_m_add_31 : decode b_m_add 31 = .ok (.iload_n 2, 1) := by decide +kernel
theorem d_m_add_32 : decode b_m_add 32 = .ok (.if_icmp .ne 4, 3) := by decide +kernel
theorem d_m_add_35 : decode b_m_add 35 = .ok (.return_, 1) := by decide +kernel
theorem d_m_add_36 : decode b_m_add 36 = .ok (.iinc 3 1, 3) := by decide +kernel
theorem d_m_add_39 : decode b_m_add 39 = .ok (.goto (-32), 3) := by decide +kernel
theorem d_m_add_42 : decode b_m_add 42 = .ok (.aload_n 0, 1) := by decide +kernel
theorem d_m_add_43 : decode b_m_add 43 = .ok (.getfield 19, 3) := by decide +kernel
theorem d_m_add_46 : decode b_m_add 46 = .ok (.aload_n 0, 1) := by decide +kernel
theorem d_m_add_47 : decode b_m_add 47 = .ok (.getfield 55, 3) := by decide +kernel
theorem d_m_add_50 : decode b_m_add 50 = .ok (.iload_n 1, 1) := by decide +kernel
theorem d_m_add_51 : decode b_m_add 51 = .ok (.iastore, 1) := by decide +kernel
theorem d_m_add_52 : decode b_m_add 52 = .ok (.aload_n 0, 1) := by decide +kernel
theorem d_m_add_53 : decode b_m_add 53 = .ok (.getfield 22, 3) := by decide +kernel
theorem d_m_add_56 : decode b_m_add 56 = .ok (.aload_n 0, 1) := by decide +kernel
theorem d_m_add_57 : decode b_m_add 57 = .ok (.getfield 55, 3) := by decide +kernel
theorem d_m_add_60 : decode b_m_add 60 = .ok (.iload_n 2, 1) := by decide +kernel
theorem d_m_add_61 : decode b_m_add 61 = .ok (.iastore, 1) := by decide +kernel
theorem d_m_add_62 : decode b_m_add 62 = .ok (.aload_n 0, 1) := by decide +kernel
theorem d_m_add_63 : decode b_m_add 63 = .ok (.dup, 1) := by decide +kernel
theorem d_m_add_64 : decode b_m_add 64 = .ok (.getfield 55, 3) := by decide +kernel
theorem d_m_add_67 : decode b_m_add 67 = .ok (.iconst 1, 1) := by decide +kernel
theorem d_m_add_68 : decode b_m_add 68 = .ok (.iadd, 1) := by decide +kernel
theorem d_m_add_69 : decode b_m_add 69 = .ok (.putfield 55, 3) := by decide +kernel
theorem d_m_add_72 : decode b_m_add 72 = .ok (.return_, 1) := by decide +kernel
set_option maxHeartbeats 4000000 in
set_option maxRecDepth 100000 in
theorem wl_m_add_7 {p : Program} {l : Launch} {e : Env} {s : State} {m : MethodId} {args : Array Value} {below : List Frame} {meth : Method} {c : Code} {D : va_G} {a : Nat → Nat} {cA : ClassId} {S' : MS} {x1 x2 : Int32} (E : CallFix p m c b_m_add 4 s args gT R_M) (hr : meth.sig.returnType = none) (hlocks : meth.locks = false) (hK : va_K D classes [(cA, .int)] s) (hD : ∀ S : MS, va_D (aM a) (wM a cA S)) : ∀ (k : Nat) (S : MS) (x3 : Int32), L_m_add_7 x1 x2 k S x3 = some S' → ∀ (H : Heap) (locs : List Loc), va_P D classes (wM a cA S) H → va_S (aM a) s.heap H locs → ∀ ls : Array Slot, lv_has ls 4 [(0, .ref (a 0)), (1, .int x1), (2, .int x2), (3, .int x3)] → W p l e (rmL 0) s m args below meth c H locs 0 0 (MQ below (mQcM D a cA none S') args s 0 0 (aM a)) (F0 m 7 ls []) := by
  have hx := E.1
  have hb := E.2.1
  intro k
  induction k with
  | zero =>
    intro S x3 h
    cases h
  | succ k ih =>
    intro S x3 h H locs hP hS ls hl
    rw [L_m_add_7] at h
    refine lv_iload_n hx hb d_m_add_7 rfl (lv_at hl 3 rfl) ?_
    refine lv_aload_n hx hb d_m_add_8 rfl (lv_at hl 0 rfl) ?_
    refine mg_C E hK hP d_m_add_9 ?_
    refine lv_icmp_ge (tgt := 42) hx hb d_m_add_12 (by decide) (fun c2 => ?_) (fun c2 => ?_)
    · rw [if_pos c2] at h
      refine lv_aload_n hx hb d_m_add_42 rfl (lv_at hl 0 rfl) ?_
      refine mg_P E hK hP d_m_add_43 ?_
      refine lv_aload_n hx hb d_m_add_46 rfl (lv_at hl 0 rfl) ?_
      refine mg_C E hK hP d_m_add_47 ?_
      refine lv_iload_n hx hb d_m_add_50 rfl (lv_at hl 1 rfl) ?_
      obtain ⟨g3, h⟩ := gd_some h
      refine ms_P E hK hD hP hS g3 d_m_add_51 (fun H locs hP hS => ?_)
      refine lv_aload_n hx hb d_m_add_52 rfl (lv_at hl 0 rfl) ?_
      refine mg_Q E hK hP d_m_add_53 ?_
      refine lv_aload_n hx hb d_m_add_56 rfl (lv_at hl 0 rfl) ?_
      refine mg_C E hK hP d_m_add_57 ?_
      refine lv_iload_n hx hb d_m_add_60 rfl (lv_at hl 2 rfl) ?_
      obtain ⟨g4, h⟩ := gd_some h
      refine ms_Q E hK hD hP hS g4 d_m_add_61 (fun H locs hP hS => ?_)
      refine lv_aload_n hx hb d_m_add_62 rfl (lv_at hl 0 rfl) ?_
      refine lv_dup hx hb d_m_add_63 rfl ?_
      refine mg_C E hK hP d_m_add_64 ?_
      refine lv_iconst (v := 1) hx hb d_m_add_67 (by decide) ?_
      refine lv_iadd hx hb d_m_add_68 ?_
      refine mp_C E hK hD hP hS d_m_add_69 (fun H locs hP hS => ?_)
      cases h
      exact W.vret hx hb hr (fun t ht hW => ⟨rfl, by rw [ht]; exact hP, hS.F ht⟩) hS.2.2 d_m_add_72
    · rw [if_neg c2] at h
      refine lv_aload_n hx hb d_m_add_15 rfl (lv_at hl 0 rfl) ?_
      refine mg_P E hK hP d_m_add_16 ?_
      refine lv_iload_n hx hb d_m_add_19 rfl (lv_at hl 3 rfl) ?_
      obtain ⟨g5, h⟩ := gd_some h
      refine ma_P E hK hP g5 d_m_add_20 ?_
      refine lv_iload_n hx hb d_m_add_21 rfl (lv_at hl 1 rfl) ?_
      refine lv_icmp_ne (tgt := 36) hx hb d_m_add_22 (by decide) (fun c6 => ?_) (fun c6 => ?_)
      · rw [if_neg c6] at h
        refine lv_iinc (v := x3 + 1) (lv' := [(3, .int (x3 + 1)), (0, .ref (a 0)), (1, .int x1), (2, .int x2)]) hx hb d_m_add_36 hl (k := 3) rfl rfl (by decide) rfl (fun ls hl => ?_)
        refine lv_goto (tgt := 7) hx hb d_m_add_39 (by decide) ?_
        exact ih S (x3 + 1) h _ _ hP hS ls (lv_sub hl [1, 2, 3, 0] rfl)
      · rw [if_pos c6] at h
        refine lv_aload_n hx hb d_m_add_25 rfl (lv_at hl 0 rfl) ?_
        refine mg_Q E hK hP d_m_add_26 ?_
        refine lv_iload_n hx hb d_m_add_29 rfl (lv_at hl 3 rfl) ?_
        refine ma_Q E hK hP g5 d_m_add_30 ?_
        refine lv_iload_n hx hb d_m_add_31 rfl (lv_at hl 2 rfl) ?_
        refine lv_icmp_ne (tgt := 36) hx hb d_m_add_32 (by decide) (fun c7 => ?_) (fun c7 => ?_)
        · rw [if_neg c7] at h
          refine lv_iinc (v := x3 + 1) (lv' := [(3, .int (x3 + 1)), (0, .ref (a 0)), (1, .int x1), (2, .int x2)]) hx hb d_m_add_36 hl (k := 3) rfl rfl (by decide) rfl (fun ls hl => ?_)
          refine lv_goto (tgt := 7) hx hb d_m_add_39 (by decide) ?_
          exact ih S (x3 + 1) h _ _ hP hS ls (lv_sub hl [1, 2, 3, 0] rfl)
        · rw [if_pos c7] at h
          cases h
          exact W.vret hx hb hr (fun t ht hW => ⟨rfl, by rw [ht]; exact hP, hS.F ht⟩) hS.2.2 d_m_add_35
set_option maxHeartbeats 4000000 in
set_option maxRecDepth 100000 in
theorem c_m_add (l : Launch) (D : va_G) (a : Nat → Nat) (cA : ClassId) (S : MS) (x1 x2 : Int32) (S' : MS) (h : j_m_add S x1 x2 = some S') : Met l y_m_add (Cond.code y_m_add b_m_add 4 (none) :: gT) (rmL 0) (mPcM D a cA S [.ref (a 0), .int x1, .int x2]) (mQcM D a cA none S') 0 0 (aM a) := by
  refine M_metM (by decide) (Nat.le_of_ble_eq_true rfl) ?_
  intro p e s m below meth c ls E hr hlocks hP hK hD hS hl
  have E : CallFix p m c b_m_add 4 s _ gT R_M := E
  have hx := E.1
  have hb := E.2.1
  have hl : lv_has ls 4 [(0, .ref (a 0)), (1, .int x1), (2, .int x2)] := hl
  unfold j_m_add at h
  refine lv_iload_n hx hb d_m_add_0 rfl (lv_at hl 2 rfl) ?_
  refine lv_if_ne (tgt := 5) hx hb d_m_add_1 (by decide) (fun c1 => ?_) (fun c1 => ?_)
  · rw [if_neg c1] at h
    refine lv_iconst (v := 0) hx hb d_m_add_5 (by decide) ?_
    refine lv_istore_n (lv' := [(3, .int 0), (0, .ref (a 0)), (1, .int x1), (2, .int x2)]) hx hb d_m_add_6 rfl hl (by decide) rfl (fun ls hl => ?_)
    exact wl_m_add_7 E hr hlocks hK hD FU S 0 h _ _ hP hS ls (lv_sub hl [1, 2, 3, 0] rfl)
  · rw [if_pos c1] at h
    cases h
    exact W.vret hx hb hr (fun t ht hW => ⟨rfl, by rw [ht]; exact hP, hS.F ht⟩) hS.2.2 d_m_add_4
theorem d_m_findNodes_0 : decode b_m_findNodes 0 = .ok (.aload_n 0, 1) := by decide +kernel
theorem d_m_findNodes_1 : decode b_m_findNodes 1 = .ok (.iconst 0, 1) := by decide +kernel
theorem d_m_findNodes_2 : decode b_m_findNodes 2 = .ok (.putfield 55, 3) := by decide +kernel
theorem d_m_findNodes_5 : decode b_m_findNodes 5 = .ok (.iconst 0, 1) := by decide +kernel
theorem d_m_findNodes_6 : decode b_m_findNodes 6 = .ok (.istore_n 1, 1) := by decide +kernel
theorem d_m_findNodes_7 : decode b_m_findNodes 7 = .ok (.iload_n 1, 1) := by decide +kernel
theorem d_m_findNodes_8 : decode b_m_findNodes 8 = .ok (.aload_n 0, 1) := by decide +kernel
theorem d_m_findNodes_9 : decode b_m_findNodes 9 = .ok (.getfield 29, 3) := by decide +kernel
theorem d_m_findNodes_12 : decode b_m_findNodes 12 = .ok (.if_icmp .ge 25, 3) := by decide +kernel
theorem d_m_findNodes_15 : decode b_m_findNodes 15 = .ok (.aload_n 0, 1) := by decide +kernel
theorem d_m_findNodes_16 : decode b_m_findNodes 16 = .ok (.aload_n 0, 1) := by decide +kernel
theorem d_m_findNodes_17 : decode b_m_findNodes 17 = .ok (.getfield 7, 3) := by decide +kernel
theorem d_m_findNodes_20 : decode b_m_findNodes 20 = .ok (.iload_n 1, 1) := by decide +kernel
theorem d_m_findNodes_21 : decode b_m_findNodes 21 = .ok (.iaload, 1) := by decide +kernel
theorem d_m_findNodes_22 : decode b_m_findNodes 22 = .ok (.aload_n 0, 1) := by decide +kernel
theorem d_m_findNodes_23 : decode b_m_findNodes 23 = .ok (.getfield 13, 3) := by decide +kernel
theorem d_m_findNodes_26 : decode b_m_findNodes 26 = .ok (.iload_n 1, 1) := by decide +kernel
theorem d_m_findNodes_27 : decode b_m_findNodes 27 = .ok (.iaload, 1) := by decide +kernel
theorem d_m_findNodes_28 : decode b_m_findNodes 28 = .ok (.invokevirtual 58, 3) := by decide +kernel
theorem d_m_findNodes_31 : decode b_m_findNodes 31 = .ok (.iinc 1 1, 3) := by decide +kernel
theorem d_m_findNodes_34 : decode b_m_findNodes 34 = .ok (.goto (-27), 3) := by decide +kernel
theorem d_m_findNodes_37 : decode b_m_findNodes 37 = .ok (.iconst 1, 1) := by decide +kernel
theorem d_m_findNodes_38 : decode b_m_findNodes 38 = .ok (.istore_n 1, 1) := by decide +kernel
theorem d_m_findNodes_39 : decode b_m_findNodes 39 = .ok (.iload_n 1, 1) := by decide +kernel
theorem d_m_findNodes_40 : decode b_m_findNodes 40 = .ok (.aload_n 0, 1) := by decide +kernel
theorem d_m_findNodes_41 : decode b_m_findNodes 41 = .ok (.getfield 29, 3) := by decide +kernel
theorem d_m_findNodes_44 : decode b_m_findNodes 44 = .ok (.if_icmp .ge 104, 3) := by decide +kernel
theorem d_m_findNodes_47 : decode b_m_findNodes 47 = .ok (.aload_n 0, 1) := by decide +kernel
theorem d_m_findNodes_48 : decode b_m_findNodes 48 = .ok (.getfield 13, 3) := by decide +kernel
theorem d_m_findNodes_51 : decode b_m_findNodes 51 = .ok (.iload_n 1, 1) := by decide +kernel
theorem d_m_findNodes_52 : decode b_m_findNodes 52 = .ok (.iaload, 1) := by decide +kernel
theorem d_m_findNodes_53 : decode b_m_findNodes 53 = .ok (.aload_n 0, 1) := by decide +kernel
theorem d_m_findNodes_54 : decode b_m_findNodes 54 = .ok (.getfield 13, 3) := by decide +kernel
theorem d_m_findNodes_57 : decode b_m_findNodes 57 = .ok (.iload_n 1, 1) := by decide +kernel
theorem d_m_findNodes_58 : decode b_m_findNodes 58 = .ok (.iconst 1, 1) := by decide +kernel
theorem d_m_findNodes_59 : decode b_m_findNodes 59 = .ok (.isub, 1) := by decide +kernel
theorem d_m_findNodes_60 : decode b_m_findNodes 60 = .ok (.iaload, 1) := by decide +kernel
theorem d_m_findNodes_61 : decode b_m_findNodes 61 = .ok (.if_icmp .ge 12, 3) := by decide +kernel
theorem d_m_findNodes_64 : decode b_m_findNodes 64 = .ok (.aload_n 0, 1) := by decide +kernel
theorem d_m_findNodes_65 : decode b_m_findNodes 65 = .ok (.getfield 13, 3) := by decide +kernel
theorem d_m_findNodes_68 : decode b_m_findNodes 68 = .ok (.iload_n 1, 1) := by decide +kernel
theorem d_m_findNodes_69 : decode b_m_findNodes 69 = .ok (.iaload, 1) := by decide +kernel
theorem d_m_findNodes_70 : decode b_m_findNodes 70 = .ok (.goto 11, 3) := by decide +kernel
theorem d_m_findNodes_73 : decode b_m_findNodes 73 = .ok (.aload_n 0, 1) := by decide +kernel
theorem d_m_findNodes_74 : decode b_m_findNodes 74 = .ok (.getfield 13, 3) := by decide +kernel
theorem d_m_findNodes_77 : decode b_m_findNodes 77 = .ok (.iload_n 1, 1) := by decide +kernel
theorem d_m_findNodes_78 : decode b_m_findNodes 78 = .ok (.iconst 1, 1) := by decide +kernel
theorem d_m_findNodes_79 : decode b_m_findNodes 79 = .ok (.isub, 1) := by decide +kernel
theorem d_m_findNodes_80 : decode b_m_findNodes 80 = .ok (.iaload, 1) := by decide +kernel
theorem d_m_findNodes_81 : decode b_m_findNodes 81 = .ok (.istore_n 2, 1) := by decide +kernel
theorem d_m_findNodes_82 : decode b_m_findNodes 82 = .ok (.iconst 0, 1) := by decide +kernel
theorem d_m_findNodes_83 : decode b_m_findNodes 83 = .ok (.istore_n 3, 1) := by decide +kernel
theorem d_m_findNodes_84 : decode b_m_findNodes 84 = .ok (.iload_n 3, 1) := by decide +kernel
theorem d_m_findNodes_85 : decode b_m_findNodes 85 = .ok (.iload_n 2, 1) := by decide +kernel
theorem d_m_findNodes_86 : decode b_m_findNodes 86 = .ok (.if_icmp .ge 40, 3) := by decide +kernel
theorem d_m_findNodes_89 : decode b_m_findNodes 89 = .ok (.aload_n 0, 1) := by decide +kernel
theorem d_m_findNodes_90 : decode b_m_findNodes 90 = .ok (.getfield 7, 3) := by decide +kernel
theorem d_m_findNodes_93 : decode b_m_findNodes 93 = .ok (.iload_n 1, 1) := by decide +kernel
theorem d_m_findNodes_94 : decode b_m_findNodes 94 = .ok (.iaload, 1) := by decide +kernel
theorem d_m_findNodes_95 : decode b_m_findNodes 95 = .ok (.bipush 31, 2) := by decide +kernel
theorem d_m_findNodes_97 : decode b_m_findNodes 97 = .ok (.iload_n 3, 1) := by decide +kernel
theorem d_m_findNodes_98 : decode b_m_findNodes 98 = .ok (.isub, 1) := by decide +kernel
theorem d_m_findNodes_99 : decode b_m_findNodes 99 = .ok (.iushr, 1) := by decide +kernel
theorem d_m_findNodes_100 : decode b_m_findNodes 100 = .ok (.iconst 1, 1) := by decide +kernel
theorem d_m_findNodes_101 : decode b_m_findNodes 101 = .ok (.iand, 1) := by decide +kernel
theorem d_m_findNodes_102 : decode b_m_findNodes 102 = .ok (.aload_n 0, 1) := by decide +kernel
theorem d_m_findNodes_103 : decode b_m_findNodes 103 = .ok (.getfield 7, 3) := by decide +kernel
theorem d_m_findNodes_106 : decode b_m_findNodes 106 = .ok (.iload_n 1, 1) := by decide +kernel
theorem d_m_findNodes_107 : decode b_m_findNodes 107 = .ok (.iconst 1, 1) := by decide +kernel
theorem d_m_findNodes_108 : decode b_m_findNodes 108 = .ok (.isub, 1) := by decide +kernel
theorem d_m_findNodes_109 : decode b_m_findNodes 109 = .ok (.iaload, 1) := by decide +kernel
theorem d_m_findNodes_110 : decode b_m_findNodes 110 = .ok (.bipush 31, 2) := by decide +kernel
theorem d_m_findNodes_112 : decode b_m_findNodes 112 = .ok (.iload_n 3, 1) := by decide +kernel
theorem d_m_findNodes_113 : decode b_m_findNodes 113 = .ok (.isub, 1) := by decide +kernel
theorem d_m_findNodes_114 : decode b_m_findNodes 114 = .ok (.iushr, 1) := by decide +kernel
theorem d_m_findNodes_115 : decode b_m_findNodes 115 = .ok (.iconst 1, 1) := by decide +kernel
theorem d_m_findNodes_116 : decode b_m_findNodes 116 = .ok (.iand, 1) := by decide +kernel
theorem d_m_findNodes_117 : decode b_m_findNodes 117 = .ok (.if_icmp .ne 9, 3) := by decide +kernel
theorem d_m_findNodes_120 : decode b_m_findNodes 120 = .ok (.iinc 3 1, 3) := by decide +kernel
theorem d_m_findNodes_123 : decode b_m_findNodes 123 = .ok (.goto (-39), 3) := by decide +kernel
theorem d_m_findNodes_126 : decode b_m_findNodes 126 = .ok (.aload_n 0, 1) := by decide +kernel
theorem d_m_findNodes_127 : decode b_m_findNodes 127 = .ok (.aload_n 0, 1) := by decide +kernel
theorem d_m_findNodes_128 : decode b_m_findNodes 128 = .ok (.getfield 7, 3) := by decide +kernel
theorem d_m_findNodes_131 : decode b_m_findNodes 131 = .ok (.iload_n 1, 1) := by decide +kernel
theorem d_m_findNodes_132 : decode b_m_findNodes 132 = .ok (.iaload, 1) := by decide +kernel
theorem d_m_findNodes_133 : decode b_m_findNodes 133 = .ok (.iload_n 3, 1) := by decide +kernel
theorem d_m_findNodes_134 : decode b_m_findNodes 134 = .ok (.invokestatic 32, 3) := by decide +kernel
theorem d_m_findNodes_137 : decode b_m_findNodes 137 = .ok (.iand, 1) := by decide +kernel
theorem d_m_findNodes_138 : decode b_m_findNodes 138 = .ok (.iload_n 3, 1) := by decide +kernel
theorem d_m_findNodes_139 : decode b_m_findNodes 139 = .ok (.invokevirtual 58, 3) := by decide +kernel
theorem d_m_findNodes_142 : decode b_m_findNodes 142 = .ok (.iinc 1 1, 3) := by decide +kernel
theorem d_m_findNodes_145 : decode b_m_findNodes 145 = .ok (.goto (-106), 3) := by decide +kernel
theorem d_m_findNodes_148 : decode b_m_findNodes 148 = .ok (.return_, 1) := by decide +kernel
set_option maxHeartbeats 4000000 in
set_option maxRecDepth 100000 in
theorem wl_m_findNodes_84 {p : Program} {l : Launch} {e : Env} {s : State} {m : MethodId} {args : Array Value} {below : List Frame} {meth : Method} {c : Code} {D : va_G} {a : Nat → Nat} {cA : ClassId} {R : Room} {H : Heap} {locs : List Loc} {cells slots : Nat} {Q : State → Prop} {S : MS} {x1 x2 : Int32} {y : Int32} (E : CallFix p m c b_m_findNodes 4 s args gT R_M) (hK : va_K D classes [(cA, .int)] s) (hP : va_P D classes (wM a cA S) H) : ∀ (k : Nat) (x3 : Int32), L_m_findNodes_84 S x1 x2 k x3 = some y → ∀ ls : Array Slot, lv_has ls 4 [(0, .ref (a 0)), (1, .int x1), (2, .int x2), (3, .int x3)] → (∀ ls : Array Slot, lv_has ls 4 [(0, .ref (a 0)), (1, .int x1), (2, .int x2), (3, .int y)] → W p l e R s m args below meth c H locs cells slots Q (F0 m 126 ls [])) → W p l e R s m args below meth c H locs cells slots Q (F0 m 84 ls []) := by
  have hx := E.1
  have hb := E.2.1
  intro k
  induction k with
  | zero =>
    intro x3 h
    cases h
  | succ k ih =>
    intro x3 h ls hl kx
    rw [L_m_findNodes_84] at h
    refine lv_iload_n hx hb d_m_findNodes_84 rfl (lv_at hl 3 rfl) ?_
    refine lv_iload_n hx hb d_m_findNodes_85 rfl (lv_at hl 2 rfl) ?_
    refine lv_icmp_ge (tgt := 126) hx hb d_m_findNodes_86 (by decide) (fun c6 => ?_) (fun c6 => ?_)
    · rw [if_pos c6] at h
      cases h
      exact kx ls (lv_sub hl [0, 1, 2, 3] rfl)
    · rw [if_neg c6] at h
      refine lv_aload_n hx hb d_m_findNodes_89 rfl (lv_at hl 0 rfl) ?_
      refine mg_B E hK hP d_m_findNodes_90 ?_
      refine lv_iload_n hx hb d_m_findNodes_93 rfl (lv_at hl 1 rfl) ?_
      obtain ⟨g7, h⟩ := gd_some h
      refine ma_B E hK hP g7 d_m_findNodes_94 ?_
      refine lv_bipush (v := 31) hx hb d_m_findNodes_95 (by decide) ?_
      refine lv_iload_n hx hb d_m_findNodes_97 rfl (lv_at hl 3 rfl) ?_
      refine lv_isub hx hb d_m_findNodes_98 ?_
      refine lv_iushr hx hb d_m_findNodes_99 rfl ?_
      refine lv_iconst (v := 1) hx hb d_m_findNodes_100 (by decide) ?_
      refine lv_iand hx hb d_m_findNodes_101 ?_
      refine lv_aload_n hx hb d_m_findNodes_102 rfl (lv_at hl 0 rfl) ?_
      refine mg_B E hK hP d_m_findNodes_103 ?_
      refine lv_iload_n hx hb d_m_findNodes_106 rfl (lv_at hl 1 rfl) ?_
      refine lv_iconst (v := 1) hx hb d_m_findNodes_107 (by decide) ?_
      refine lv_isub hx hb d_m_findNodes_108 ?_
      obtain ⟨g8, h⟩ := gd_some h
      refine ma_B E hK hP g8 d_m_findNodes_109 ?_
      refine lv_bipush (v := 31) hx hb d_m_findNodes_110 (by decide) ?_
      refine lv_iload_n hx hb d_m_findNodes_112 rfl (lv_at hl 3 rfl) ?_
      refine lv_isub hx hb d_m_findNodes_113 ?_
      refine lv_iushr hx hb d_m_findNodes_114 rfl ?_
      refine lv_iconst (v := 1) hx hb d_m_findNodes_115 (by decide) ?_
      refine lv_iand hx hb d_m_findNodes_116 ?_
      refine lv_icmp_ne (tgt := 126) hx hb d_m_findNodes_117 (by decide) (fun c9 => ?_) (fun c9 => ?_)
      · rw [if_neg c9] at h
        cases h
        exact kx ls (lv_sub hl [0, 1, 2, 3] rfl)
      · rw [if_pos c9] at h
        refine lv_iinc (v := x3 + 1) (lv' := [(3, .int (x3 + 1)), (0, .ref (a 0)), (1, .int x1), (2, .int x2)]) hx hb d_m_findNodes_120 hl (k := 3) rfl rfl (by decide) rfl (fun ls hl => ?_)
        refine lv_goto (tgt := 84) hx hb d_m_findNodes_123 (by decide) ?_
        exact ih (x3 + 1) h ls (lv_sub hl [1, 2, 3, 0] rfl) kx
set_option maxHeartbeats 4000000 in
set_option maxRecDepth 100000 in
theorem wl_m_findNodes_39 {p : Program} {l : Launch} {e : Env} {s : State} {m : MethodId} {args : Array Value} {below : List Frame} {meth : Method} {c : Code} {D : va_G} {a : Nat → Nat} {cA : ClassId} {S' : MS} (E : CallFix p m c b_m_findNodes 4 s args gT R_M) (hr : meth.sig.returnType = none) (hlocks : meth.locks = false) (hK : va_K D classes [(cA, .int)] s) (hD : ∀ S : MS, va_D (aM a) (wM a cA S)) : ∀ (k : Nat) (S : MS) (x1 : Int32), L_m_findNodes_39  k S x1 = some S' → ∀ (H : Heap) (locs : List Loc), va_P D classes (wM a cA S) H → va_S (aM a) s.heap H locs → ∀ ls : Array Slot, lv_has ls 4 [(0, .ref (a 0)), (1, .int x1)] → W p l e (rmL 1) s m args below meth c H locs 0 0 (MQ below (mQcM D a cA none S') args s 0 0 (aM a)) (F0 m 39 ls []) := by
  have hx := E.1
  have hb := E.2.1
  intro k
  induction k with
  | zero =>
    intro S x1 h
    cases h
  | succ k ih =>
    intro S x1 h H locs hP hS ls hl
    rw [L_m_findNodes_39] at h
    refine lv_iload_n hx hb d_m_findNodes_39 rfl (lv_at hl 1 rfl) ?_
    refine lv_aload_n hx hb d_m_findNodes_40 rfl (lv_at hl 0 rfl) ?_
    refine mg_N E hK hP d_m_findNodes_41 ?_
    refine lv_icmp_ge (tgt := 148) hx hb d_m_findNodes_44 (by decide) (fun c2 => ?_) (fun c2 => ?_)
    · rw [if_pos c2] at h
      cases h
      exact W.vret hx hb hr (fun t ht hW => ⟨rfl, by rw [ht]; exact hP, hS.F ht⟩) hS.2.2 d_m_findNodes_148
    · rw [if_neg c2] at h
      refine lv_aload_n hx hb d_m_findNodes_47 rfl (lv_at hl 0 rfl) ?_
      refine mg_L E hK hP d_m_findNodes_48 ?_
      refine lv_iload_n hx hb d_m_findNodes_51 rfl (lv_at hl 1 rfl) ?_
      obtain ⟨g3, h⟩ := gd_some h
      refine ma_L E hK hP g3 d_m_findNodes_52 ?_
      refine lv_aload_n hx hb d_m_findNodes_53 rfl (lv_at hl 0 rfl) ?_
      refine mg_L E hK hP d_m_findNodes_54 ?_
      refine lv_iload_n hx hb d_m_findNodes_57 rfl (lv_at hl 1 rfl) ?_
      refine lv_iconst (v := 1) hx hb d_m_findNodes_58 (by decide) ?_
      refine lv_isub hx hb d_m_findNodes_59 ?_
      obtain ⟨g4, h⟩ := gd_some h
      refine ma_L E hK hP g4 d_m_findNodes_60 ?_
      refine lv_icmp_ge (tgt := 73) hx hb d_m_findNodes_61 (by decide) (fun c5 => ?_) (fun c5 => ?_)
      · rw [if_pos c5] at h
        refine lv_aload_n hx hb d_m_findNodes_73 rfl (lv_at hl 0 rfl) ?_
        refine mg_L E hK hP d_m_findNodes_74 ?_
        refine lv_iload_n hx hb d_m_findNodes_77 rfl (lv_at hl 1 rfl) ?_
        refine lv_iconst (v := 1) hx hb d_m_findNodes_78 (by decide) ?_
        refine lv_isub hx hb d_m_findNodes_79 ?_
        refine ma_L E hK hP g4 d_m_findNodes_80 ?_
        refine lv_istore_n (lv' := [(2, .int (mL S (cl (x1 - 1)))), (0, .ref (a 0)), (1, .int x1)]) hx hb d_m_findNodes_81 rfl hl (by decide) rfl (fun ls hl => ?_)
        refine lv_iconst (v := 0) hx hb d_m_findNodes_82 (by decide) ?_
        refine lv_istore_n (lv' := [(3, .int 0), (2, .int (mL S (cl (x1 - 1)))), (0, .ref (a 0)), (1, .int x1)]) hx hb d_m_findNodes_83 rfl hl (by decide) rfl (fun ls hl => ?_)
        obtain ⟨y10, e11, h⟩ := Option.bind_eq_some_iff.mp h
        refine wl_m_findNodes_84 E hK hP FU 0 e11 ls (lv_sub hl [2, 3, 1, 0] rfl) (fun ls hl => ?_)
        refine lv_aload_n hx hb d_m_findNodes_126 rfl (lv_at hl 0 rfl) ?_
        refine lv_aload_n hx hb d_m_findNodes_127 rfl (lv_at hl 0 rfl) ?_
        refine mg_B E hK hP d_m_findNodes_128 ?_
        refine lv_iload_n hx hb d_m_findNodes_131 rfl (lv_at hl 1 rfl) ?_
        refine ma_B E hK hP g3 d_m_findNodes_132 ?_
        refine lv_iload_n hx hb d_m_findNodes_133 rfl (lv_at hl 3 rfl) ?_
        obtain ⟨v13, e12, h⟩ := Option.bind_eq_some_iff.mp h
        refine S_call (As := [.int y10]) (rest := [.int (mB S (cl x1)), .ref (a 0)]) (r := v13) E (c_m_mask l y10 v13 e12) k_m_mask lk_m_32 ⟨Nat.le_of_ble_eq_true rfl, Nat.le_of_ble_eq_true rfl⟩ rfl hl.1 rfl (Nat.le_of_ble_eq_true rfl) d_m_findNodes_134 ⟨Nat.le_of_ble_eq_true rfl, Nat.le_of_ble_eq_true rfl⟩ ?_
        refine lv_iand hx hb d_m_findNodes_137 ?_
        refine lv_iload_n hx hb d_m_findNodes_138 rfl (lv_at hl 3 rfl) ?_
        obtain ⟨S15, e14, h⟩ := Option.bind_eq_some_iff.mp h
        refine M_callM (As := [.int ((mB S (cl x1)) &&& v13), .int y10]) (rest := []) (v := none) (S' := S15) E hK hD hP hS (c_m_add l D a cA S ((mB S (cl x1)) &&& v13) y10 S15 e14) k_m_add lk_m_58 ⟨Nat.le_of_ble_eq_true rfl, Nat.le_of_ble_eq_true rfl⟩ rfl hl.1 rfl (Nat.le_of_ble_eq_true rfl) d_m_findNodes_139 ⟨Nat.le_of_ble_eq_true rfl, Nat.le_of_ble_eq_true rfl⟩ (fun H locs hP hS _ _ => ?_)
        refine W.eq (g2 := F0 m 142 ls []) rfl ?_
        refine lv_iinc (v := x1 + 1) (lv' := [(1, .int (x1 + 1)), (0, .ref (a 0)), (2, .int (mL S (cl (x1 - 1)))), (3, .int y10)]) hx hb d_m_findNodes_142 hl (k := 1) rfl rfl (by decide) rfl (fun ls hl => ?_)
        refine lv_goto (tgt := 39) hx hb d_m_findNodes_145 (by decide) ?_
        exact ih S15 (x1 + 1) h _ _ hP hS ls (lv_sub hl [1, 0] rfl)
      · rw [if_neg c5] at h
        refine lv_aload_n hx hb d_m_findNodes_64 rfl (lv_at hl 0 rfl) ?_
        refine mg_L E hK hP d_m_findNodes_65 ?_
        refine lv_iload_n hx hb d_m_findNodes_68 rfl (lv_at hl 1 rfl) ?_
        refine ma_L E hK hP g3 d_m_findNodes_69 ?_
        refine lv_goto (tgt := 81) hx hb d_m_findNodes_70 (by decide) ?_
        refine lv_istore_n (lv' := [(2, .int (mL S (cl x1))), (0, .ref (a 0)), (1, .int x1)]) hx hb d_m_findNodes_81 rfl hl (by decide) rfl (fun ls hl => ?_)
        refine lv_iconst (v := 0) hx hb d_m_findNodes_82 (by decide) ?_
        refine lv_istore_n (lv' := [(3, .int 0), (2, .int (mL S (cl x1))), (0, .ref (a 0)), (1, .int x1)]) hx hb d_m_findNodes_83 rfl hl (by decide) rfl (fun ls hl => ?_)
        obtain ⟨y16, e17, h⟩ := Option.bind_eq_some_iff.mp h
        refine wl_m_findNodes_84 E hK hP FU 0 e17 ls (lv_sub hl [2, 3, 1, 0] rfl) (fun ls hl => ?_)
        refine lv_aload_n hx hb d_m_findNodes_126 rfl (lv_at hl 0 rfl) ?_
        refine lv_aload_n hx hb d_m_findNodes_127 rfl (lv_at hl 0 rfl) ?_
        refine mg_B E hK hP d_m_findNodes_128 ?_
        refine lv_iload_n hx hb d_m_findNodes_131 rfl (lv_at hl 1 rfl) ?_
        refine ma_B E hK hP g3 d_m_findNodes_132 ?_
        refine lv_iload_n hx hb d_m_findNodes_133 rfl (lv_at hl 3 rfl) ?_
        obtain ⟨v19, e18, h⟩ := Option.bind_eq_some_iff.mp h
        refine S_call (As := [.int y16]) (rest := [.int (mB S (cl x1)), .ref (a 0)]) (r := v19) E (c_m_mask l y16 v19 e18) k_m_mask lk_m_32 ⟨Nat.le_of_ble_eq_true rfl, Nat.le_of_ble_eq_true rfl⟩ rfl hl.1 rfl (Nat.le_of_ble_eq_true rfl) d_m_findNodes_134 ⟨Nat.le_of_ble_eq_true rfl, Nat.le_of_ble_eq_true rfl⟩ ?_
        refine lv_iand hx hb d_m_findNodes_137 ?_
        refine lv_iload_n hx hb d_m_findNodes_138 rfl (lv_at hl 3 rfl) ?_
        obtain ⟨S21, e20, h⟩ := Option.bind_eq_some_iff.mp h
        refine M_callM (As := [.int ((mB S (cl x1)) &&& v19), .int y16]) (rest := []) (v := none) (S' := S21) E hK hD hP hS (c_m_add l D a cA S ((mB S (cl x1)) &&& v19) y16 S21 e20) k_m_add lk_m_58 ⟨Nat.le_of_ble_eq_true rfl, Nat.le_of_ble_eq_true rfl⟩ rfl hl.1 rfl (Nat.le_of_ble_eq_true rfl) d_m_findNodes_139 ⟨Nat.le_of_ble_eq_true rfl, Nat.le_of_ble_eq_true rfl⟩ (fun H locs hP hS _ _ => ?_)
        refine W.eq (g2 := F0 m 142 ls []) rfl ?_
        refine lv_iinc (v := x1 + 1) (lv' := [(1, .int (x1 + 1)), (0, .ref (a 0)), (2, .int (mL S (cl x1))), (3, .int y16)]) hx hb d_m_findNodes_142 hl (k := 1) rfl rfl (by decide) rfl (fun ls hl => ?_)
        refine lv_goto (tgt := 39) hx hb d_m_findNodes_145 (by decide) ?_
        exact ih S21 (x1 + 1) h _ _ hP hS ls (lv_sub hl [1, 0] rfl)
set_option maxHeartbeats 4000000 in
set_option maxRecDepth 100000 in
theorem wl_m_findNodes_7 {p : Program} {l : Launch} {e : Env} {s : State} {m : MethodId} {args : Array Value} {below : List Frame} {meth : Method} {c : Code} {D : va_G} {a : Nat → Nat} {cA : ClassId} {S' : MS} (E : CallFix p m c b_m_findNodes 4 s args gT R_M) (hr : meth.sig.returnType = none) (hlocks : meth.locks = false) (hK : va_K D classes [(cA, .int)] s) (hD : ∀ S : MS, va_D (aM a) (wM a cA S)) : ∀ (k : Nat) (S : MS) (x1 : Int32), L_m_findNodes_7  k S x1 = some S' → ∀ (H : Heap) (locs : List Loc), va_P D classes (wM a cA S) H → va_S (aM a) s.heap H locs → ∀ ls : Array Slot, lv_has ls 4 [(0, .ref (a 0)), (1, .int x1)] → W p l e (rmL 1) s m args below meth c H locs 0 0 (MQ below (mQcM D a cA none S') args s 0 0 (aM a)) (F0 m 7 ls []) := by
  have hx := E.1
  have hb := E.2.1
  intro k
  induction k with
  | zero =>
    intro S x1 h
    cases h
  | succ k ih =>
    intro S x1 h H locs hP hS ls hl
    rw [L_m_findNodes_7] at h
    refine lv_iload_n hx hb d_m_findNodes_7 rfl (lv_at hl 1 rfl) ?_
    refine lv_aload_n hx hb d_m_findNodes_8 rfl (lv_at hl 0 rfl) ?_
    refine mg_N E hK hP d_m_findNodes_9 ?_
    refine lv_icmp_ge (tgt := 37) hx hb d_m_findNodes_12 (by decide) (fun c1 => ?_) (fun c1 => ?_)
    · rw [if_pos c1] at h
      refine lv_iconst (v := 1) hx hb d_m_findNodes_37 (by decide) ?_
      refine lv_istore_n (lv' := [(1, .int 1), (0, .ref (a 0))]) hx hb d_m_findNodes_38 rfl hl (by decide) rfl (fun ls hl => ?_)
      exact wl_m_findNodes_39 E hr hlocks hK hD FU S 1 h _ _ hP hS ls (lv_sub hl [1, 0] rfl)
    · rw [if_neg c1] at h
      refine lv_aload_n hx hb d_m_findNodes_15 rfl (lv_at hl 0 rfl) ?_
      refine lv_aload_n hx hb d_m_findNodes_16 rfl (lv_at hl 0 rfl) ?_
      refine mg_B E hK hP d_m_findNodes_17 ?_
      refine lv_iload_n hx hb d_m_findNodes_20 rfl (lv_at hl 1 rfl) ?_
      obtain ⟨g22, h⟩ := gd_some h
      refine ma_B E hK hP g22 d_m_findNodes_21 ?_
      refine lv_aload_n hx hb d_m_findNodes_22 rfl (lv_at hl 0 rfl) ?_
      refine mg_L E hK hP d_m_findNodes_23 ?_
      refine lv_iload_n hx hb d_m_findNodes_26 rfl (lv_at hl 1 rfl) ?_
      refine ma_L E hK hP g22 d_m_findNodes_27 ?_
      obtain ⟨S24, e23, h⟩ := Option.bind_eq_some_iff.mp h
      refine M_callM (As := [.int (mB S (cl x1)), .int (mL S (cl x1))]) (rest := []) (v := none) (S' := S24) E hK hD hP hS (c_m_add l D a cA S (mB S (cl x1)) (mL S (cl x1)) S24 e23) k_m_add lk_m_58 ⟨Nat.le_of_ble_eq_true rfl, Nat.le_of_ble_eq_true rfl⟩ rfl hl.1 rfl (Nat.le_of_ble_eq_true rfl) d_m_findNodes_28 ⟨Nat.le_of_ble_eq_true rfl, Nat.le_of_ble_eq_true rfl⟩ (fun H locs hP hS _ _ => ?_)
      refine W.eq (g2 := F0 m 31 ls []) rfl ?_
      refine lv_iinc (v := x1 + 1) (lv' := [(1, .int (x1 + 1)), (0, .ref (a 0))]) hx hb d_m_findNodes_31 hl (k := 1) rfl rfl (by decide) rfl (fun ls hl => ?_)
      refine lv_goto (tgt := 7) hx hb d_m_findNodes_34 (by decide) ?_
      exact ih S24 (x1 + 1) h _ _ hP hS ls (lv_sub hl [1, 0] rfl)
set_option maxHeartbeats 4000000 in
set_option maxRecDepth 100000 in
theorem c_m_findNodes (l : Launch) (D : va_G) (a : Nat → Nat) (cA : ClassId) (S : MS) (S' : MS) (h : j_m_findNodes S = some S') : Met l y_m_findNodes (Cond.code y_m_findNodes b_m_findNodes 4 (none) :: gT) (rmL 1) (mPcM D a cA S [.ref (a 0)]) (mQcM D a cA none S') 0 0 (aM a) := by
  refine M_metM (by decide) (Nat.le_of_ble_eq_true rfl) ?_
  intro p e s m below meth c ls E hr hlocks hP hK hD hS hl
  have E : CallFix p m c b_m_findNodes 4 s _ gT R_M := E
  have hx := E.1
  have hb := E.2.1
  have hl : lv_has ls 4 [(0, .ref (a 0))] := hl
  unfold j_m_findNodes at h
  refine lv_aload_n hx hb d_m_findNodes_0 rfl (lv_at hl 0 rfl) ?_
  refine lv_iconst (v := 0) hx hb d_m_findNodes_1 (by decide) ?_
  refine mp_C E hK hD hP hS d_m_findNodes_2 (fun H locs hP hS => ?_)
  refine lv_iconst (v := 0) hx hb d_m_findNodes_5 (by decide) ?_
  refine lv_istore_n (lv' := [(1, .int 0), (0, .ref (a 0))]) hx hb d_m_findNodes_6 rfl hl (by decide) rfl (fun ls hl => ?_)
  exact wl_m_findNodes_7 E hr hlocks hK hD FU (vC S 0) 0 h _ _ hP hS ls (lv_sub hl [1, 0] rfl)
theorem d_m_nodes_0 : decode b_m_nodes 0 = .ok (.aload_n 0, 1) := by decide +kernel
theorem d_m_nodes_1 : decode b_m_nodes 1 = .ok (.iconst 0, 1) := by decide +kernel
theorem d_m_nodes_2 : decode b_m_nodes 2 = .ok (.putfield 25, 3) := by decide +kernel
theorem d_m_nodes_5 : decode b_m_nodes 5 = .ok (.aload_n 0, 1) := by decide +kernel
theorem d_m_nodes_6 : decode b_m_nodes 6 = .ok (.invokevirtual 62, 3) := by decide +kernel
theorem d_m_nodes_9 : decode b_m_nodes 9 = .ok (.iconst 1, 1) := by decide +kernel
theorem d_m_nodes_10 : decode b_m_nodes 10 = .ok (.aload_n 0, 1) := by decide +kernel
theorem d_m_nodes_11 : decode b_m_nodes 11 = .ok (.getfield 55, 3) := by decide +kernel
theorem d_m_nodes_14 : decode b_m_nodes 14 = .ok (.iadd, 1) := by decide +kernel
theorem d_m_nodes_15 : decode b_m_nodes 15 = .ok (.ireturn, 1) := by decide +kernel
set_option maxHeartbeats 4000000 in
set_option maxRecDepth 100000 in
theorem c_m_nodes (l : Launch) (D : va_G) (a : Nat → Nat) (cA : ClassId) (S : MS) (r : Int32) (S' : MS) (h : j_m_nodes S = some (r, S')) : Met l y_m_nodes (Cond.code y_m_nodes b_m_nodes 1 (some .int) :: gT) (rmL 2) (mPcM D a cA S [.ref (a 0)]) (mQcM D a cA (some (.int r)) S') 0 0 (aM a) := by
  refine M_metM (by decide) (Nat.le_of_ble_eq_true rfl) ?_
  intro p e s m below meth c ls E hr hlocks hP hK hD hS hl
  have E : CallFix p m c b_m_nodes 1 s _ gT R_M := E
  have hx := E.1
  have hb := E.2.1
  have hl : lv_has ls 1 [(0, .ref (a 0))] := hl
  unfold j_m_nodes at h
  refine lv_aload_n hx hb d_m_nodes_0 rfl (lv_at hl 0 rfl) ?_
  refine lv_iconst (v := 0) hx hb d_m_nodes_1 (by decide) ?_
  refine mp_K E hK hD hP hS d_m_nodes_2 (fun H locs hP hS => ?_)
  refine lv_aload_n hx hb d_m_nodes_5 rfl (lv_at hl 0 rfl) ?_
  obtain ⟨S2, e1, h⟩ := Option.bind_eq_some_iff.mp h
  refine M_callM (As := []) (rest := []) (v := none) (S' := S2) E hK hD hP hS (c_m_findNodes l D a cA (vK S 0)  S2 e1) k_m_findNodes lk_m_62 ⟨Nat.le_of_ble_eq_true rfl, Nat.le_of_ble_eq_true rfl⟩ rfl hl.1 rfl (Nat.le_of_ble_eq_true rfl) d_m_nodes_6 ⟨Nat.le_of_ble_eq_true rfl, Nat.le_of_ble_eq_true rfl⟩ (fun H locs hP hS _ _ => ?_)
  refine W.eq (g2 := F0 m 9 ls []) rfl ?_
  refine lv_iconst (v := 1) hx hb d_m_nodes_9 (by decide) ?_
  refine lv_aload_n hx hb d_m_nodes_10 rfl (lv_at hl 0 rfl) ?_
  refine mg_C E hK hP d_m_nodes_11 ?_
  refine lv_iadd hx hb d_m_nodes_14 ?_
  cases h
  exact W.iret (v := _) hx hb hr (fun t ht hW => ⟨rfl, by rw [ht]; exact hP, hS.F ht⟩) hS.2.2 d_m_nodes_15
theorem d_m_depth_0 : decode b_m_depth 0 = .ok (.aload_n 0, 1) := by decide +kernel
theorem d_m_depth_1 : decode b_m_depth 1 = .ok (.iconst 0, 1) := by decide +kernel
theorem d_m_depth_2 : decode b_m_depth 2 = .ok (.putfield 25, 3) := by decide +kernel
theorem d_m_depth_5 : decode b_m_depth 5 = .ok (.aload_n 0, 1) := by decide +kernel
theorem d_m_depth_6 : decode b_m_depth 6 = .ok (.invokevirtual 62, 3) := by decide +kernel
theorem d_m_depth_9 : decode b_m_depth 9 = .ok (.iconst 1, 1) := by decide +kernel
theorem d_m_depth_10 : decode b_m_depth 10 = .ok (.istore_n 2, 1) := by decide +kernel
theorem d_m_depth_11 : decode b_m_depth 11 = .ok (.iconst 0, 1) := by decide +kernel
theorem d_m_depth_12 : decode b_m_depth 12 = .ok (.istore_n 3, 1) := by decide +kernel
theorem d_m_depth_13 : decode b_m_depth 13 = .ok (.iload_n 3, 1) := by decide +kernel
theorem d_m_depth_14 : decode b_m_depth 14 = .ok (.aload_n 0, 1) := by decide +kernel
theorem d_m_depth_15 : decode b_m_depth 15 = .ok (.getfield 55, 3) := by decide +kernel
theorem d_m_depth_18 : decode b_m_depth 18 = .ok (.if_icmp .ge 36, 3) := by decide +kernel
theorem d_m_depth_21 : decode b_m_depth 21 = .ok (.iload_n 2, 1) := by decide +kernel
theorem d_m_depth_22 : decode b_m_depth 22 = .ok (.iload_n 1, 1) := by decide +kernel
theorem d_m_depth_23 : decode b_m_depth 23 = .ok (.aload_n 0, 1) := by decide +kernel
theorem d_m_depth_24 : decode b_m_depth 24 = .ok (.getfield 19, 3) := by decide +kernel
theorem d_m_depth_27 : decode b_m_depth 27 = .ok (.iload_n 3, 1) := by decide +kernel
theorem d_m_depth_28 : decode b_m_depth 28 = .ok (.iaload, 1) := by decide +kernel
theorem d_m_depth_29 : decode b_m_depth 29 = .ok (.aload_n 0, 1) := by decide +kernel
theorem d_m_depth_30 : decode b_m_depth 30 = .ok (.getfield 22, 3) := by decide +kernel
theorem d_m_depth_33 : decode b_m_depth 33 = .ok (.iload_n 3, 1) := by decide +kernel
theorem d_m_depth_34 : decode b_m_depth 34 = .ok (.iaload, 1) := by decide +kernel
theorem d_m_depth_35 : decode b_m_depth 35 = .ok (.invokestatic 49, 3) := by decide +kernel
theorem d_m_depth_38 : decode b_m_depth 38 = .ok (.ifCond .eq 7, 3) := by decide +kernel
theorem d_m_depth_41 : decode b_m_depth 41 = .ok (.iconst 1, 1) := by decide +kernel
theorem d_m_depth_42 : decode b_m_depth 42 = .ok (.goto 4, 3) := by decide +kernel
theorem d_m_depth_45 : decode b_m_depth 45 = .ok (.iconst 0, 1) := by decide +kernel
theorem d_m_depth_46 : decode b_m_depth 46 = .ok (.iadd, 1) := by decide +kernel
theorem d_m_depth_47 : decode b_m_depth 47 = .ok (.istore_n 2, 1) := by decide +kernel
theorem d_m_depth_48 : decode b_m_depth 48 = .ok (.iinc 3 1, 3) := by decide +kernel
theorem d_m_depth_51 : decode b_m_depth 51 = .ok (.goto (-38), 3) := by decide +kernel
theorem d_m_depth_54 : decode b_m_depth 54 = .ok (.iload_n 2, 1) := by decide +kernel
theorem d_m_depth_55 : decode b_m_depth 55 = .ok (.ireturn, 1) := by decide +kernel
set_option maxHeartbeats 4000000 in
set_option maxRecDepth 100000 in
theorem wl_m_depth_13 {p : Program} {l : Launch} {e : Env} {s : State} {m : MethodId} {args : Array Value} {below : List Frame} {meth : Method} {c : Code} {D : va_G} {a : Nat → Nat} {cA : ClassId} {S' : MS} {r : Int32} {x1 : Int32} (E : CallFix p m c b_m_depth 4 s args gT R_M) (hr : meth.sig.returnType = some .int) (hlocks : meth.locks = false) (hK : va_K D classes [(cA, .int)] s) (hD : ∀ S : MS, va_D (aM a) (wM a cA S)) : ∀ (k : Nat) (S : MS) (x2 x3 : Int32), L_m_depth_13 x1 k S x2 x3 = some (r, S') → ∀ (H : Heap) (locs : List Loc), va_P D classes (wM a cA S) H → va_S (aM a) s.heap H locs → ∀ ls : Array Slot, lv_has ls 4 [(0, .ref (a 0)), (1, .int x1), (2, .int x2), (3, .int x3)] → W p l e (rmL 2) s m args below meth c H locs 0 0 (MQ below (mQcM D a cA (some (.int r)) S') args s 0 0 (aM a)) (F0 m 13 ls []) := by
  have hx := E.1
  have hb := E.2.1
  intro k
  induction k with
  | zero =>
    intro S x2 x3 h
    cases h
  | succ k ih =>
    intro S x2 x3 h H locs hP hS ls hl
    rw [L_m_depth_13] at h
    refine lv_iload_n hx hb d_m_depth_13 rfl (lv_at hl 3 rfl) ?_
    refine lv_aload_n hx hb d_m_depth_14 rfl (lv_at hl 0 rfl) ?_
    refine mg_C E hK hP d_m_depth_15 ?_
    refine lv_icmp_ge (tgt := 54) hx hb d_m_depth_18 (by decide) (fun c3 => ?_) (fun c3 => ?_)
    · rw [if_pos c3] at h
      refine lv_iload_n hx hb d_m_depth_54 rfl (lv_at hl 2 rfl) ?_
      cases h
      exact W.iret (v := _) hx hb hr (fun t ht hW => ⟨rfl, by rw [ht]; exact hP, hS.F ht⟩) hS.2.2 d_m_depth_55
    · rw [if_neg c3] at h
      refine lv_iload_n hx hb d_m_depth_21 rfl (lv_at hl 2 rfl) ?_
      refine lv_iload_n hx hb d_m_depth_22 rfl (lv_at hl 1 rfl) ?_
      refine lv_aload_n hx hb d_m_depth_23 rfl (lv_at hl 0 rfl) ?_
      refine mg_P E hK hP d_m_depth_24 ?_
      refine lv_iload_n hx hb d_m_depth_27 rfl (lv_at hl 3 rfl) ?_
      obtain ⟨g4, h⟩ := gd_some h
      refine ma_P E hK hP g4 d_m_depth_28 ?_
      refine lv_aload_n hx hb d_m_depth_29 rfl (lv_at hl 0 rfl) ?_
      refine mg_Q E hK hP d_m_depth_30 ?_
      refine lv_iload_n hx hb d_m_depth_33 rfl (lv_at hl 3 rfl) ?_
      refine ma_Q E hK hP g4 d_m_depth_34 ?_
      obtain ⟨v6, e5, h⟩ := Option.bind_eq_some_iff.mp h
      refine S_call (As := [.int x1, .int (mP S (cl x3)), .int (mQ S (cl x3))]) (rest := [.int x2]) (r := v6) E (c_m_begins l x1 (mP S (cl x3)) (mQ S (cl x3)) v6 e5) k_m_begins lk_m_49 ⟨Nat.le_of_ble_eq_true rfl, Nat.le_of_ble_eq_true rfl⟩ rfl hl.1 rfl (Nat.le_of_ble_eq_true rfl) d_m_depth_35 ⟨Nat.le_of_ble_eq_true rfl, Nat.le_of_ble_eq_true rfl⟩ ?_
      refine lv_if_eq (tgt := 45) hx hb d_m_depth_38 (by decide) (fun c7 => ?_) (fun c7 => ?_)
      · rw [if_pos c7] at h
        refine lv_iconst (v := 0) hx hb d_m_depth_45 (by decide) ?_
        refine lv_iadd hx hb d_m_depth_46 ?_
        refine lv_istore_n (lv' := [(2, .int (x2 + 0)), (0, .ref (a 0)), (1, .int x1), (3, .int x3)]) hx hb d_m_depth_47 rfl hl (by decide) rfl (fun ls hl => ?_)
        refine lv_iinc (v := x3 + 1) (lv' := [(3, .int (x3 + 1)), (2, .int (x2 + 0)), (0, .ref (a 0)), (1, .int x1)]) hx hb d_m_depth_48 hl (k := 3) rfl rfl (by decide) rfl (fun ls hl => ?_)
        refine lv_goto (tgt := 13) hx hb d_m_depth_51 (by decide) ?_
        exact ih S (x2 + 0) (x3 + 1) h _ _ hP hS ls (lv_sub hl [2, 3, 1, 0] rfl)
      · rw [if_neg c7] at h
        refine lv_iconst (v := 1) hx hb d_m_depth_41 (by decide) ?_
        refine lv_goto (tgt := 46) hx hb d_m_depth_42 (by decide) ?_
        refine lv_iadd hx hb d_m_depth_46 ?_
        refine lv_istore_n (lv' := [(2, .int (x2 + 1)), (0, .ref (a 0)), (1, .int x1), (3, .int x3)]) hx hb d_m_depth_47 rfl hl (by decide) rfl (fun ls hl => ?_)
        refine lv_iinc (v := x3 + 1) (lv' := [(3, .int (x3 + 1)), (2, .int (x2 + 1)), (0, .ref (a 0)), (1, .int x1)]) hx hb d_m_depth_48 hl (k := 3) rfl rfl (by decide) rfl (fun ls hl => ?_)
        refine lv_goto (tgt := 13) hx hb d_m_depth_51 (by decide) ?_
        exact ih S (x2 + 1) (x3 + 1) h _ _ hP hS ls (lv_sub hl [2, 3, 1, 0] rfl)
set_option maxHeartbeats 4000000 in
set_option maxRecDepth 100000 in
theorem c_m_depth (l : Launch) (D : va_G) (a : Nat → Nat) (cA : ClassId) (S : MS) (x1 : Int32) (r : Int32) (S' : MS) (h : j_m_depth S x1 = some (r, S')) : Met l y_m_depth (Cond.code y_m_depth b_m_depth 4 (some .int) :: gT) (rmL 2) (mPcM D a cA S [.ref (a 0), .int x1]) (mQcM D a cA (some (.int r)) S') 0 0 (aM a) := by
  refine M_metM (by decide) (Nat.le_of_ble_eq_true rfl) ?_
  intro p e s m below meth c ls E hr hlocks hP hK hD hS hl
  have E : CallFix p m c b_m_depth 4 s _ gT R_M := E
  have hx := E.1
  have hb := E.2.1
  have hl : lv_has ls 4 [(0, .ref (a 0)), (1, .int x1)] := hl
  unfold j_m_depth at h
  refine lv_aload_n hx hb d_m_depth_0 rfl (lv_at hl 0 rfl) ?_
  refine lv_iconst (v := 0) hx hb d_m_depth_1 (by decide) ?_
  refine mp_K E hK hD hP hS d_m_depth_2 (fun H locs hP hS => ?_)
  refine lv_aload_n hx hb d_m_depth_5 rfl (lv_at hl 0 rfl) ?_
  obtain ⟨S2, e1, h⟩ := Option.bind_eq_some_iff.mp h
  refine M_callM (As := []) (rest := []) (v := none) (S' := S2) E hK hD hP hS (c_m_findNodes l D a cA (vK S 0)  S2 e1) k_m_findNodes lk_m_62 ⟨Nat.le_of_ble_eq_true rfl, Nat.le_of_ble_eq_true rfl⟩ rfl hl.1 rfl (Nat.le_of_ble_eq_true rfl) d_m_depth_6 ⟨Nat.le_of_ble_eq_true rfl, Nat.le_of_ble_eq_true rfl⟩ (fun H locs hP hS _ _ => ?_)
  refine W.eq (g2 := F0 m 9 ls []) rfl ?_
  refine lv_iconst (v := 1) hx hb d_m_depth_9 (by decide) ?_
  refine lv_istore_n (lv' := [(2, .int 1), (0, .ref (a 0)), (1, .int x1)]) hx hb d_m_depth_10 rfl hl (by decide) rfl (fun ls hl => ?_)
  refine lv_iconst (v := 0) hx hb d_m_depth_11 (by decide) ?_
  refine lv_istore_n (lv' := [(3, .int 0), (2, .int 1), (0, .ref (a 0)), (1, .int x1)]) hx hb d_m_depth_12 rfl hl (by decide) rfl (fun ls hl => ?_)
  exact wl_m_depth_13 E hr hlocks hK hD FU S2 1 0 h _ _ hP hS ls (lv_sub hl [2, 3, 1, 0] rfl)
end
section
def zT : TS := (fun _ => 0, fun _ => 0, fun _ => 0, fun _ => 0, fun _ => 0, fun _ => 0, 0, 0)
def zM : MS := (0, fun _ => 0, fun _ => 0, fun _ => 0, 0, fun _ => 0, fun _ => 0, 0)
theorem kA_eq {D : va_G} {tys : List (ClassId × FieldType)} {s : State} (h : va_K D classes tys s) {i j : Nat} {c1 c2 : ClassId} (h1 : tys[i]? = some (c1, .int)) (h2 : tys[j]? = some (c2, .int)) : c1 = c2 := Option.some.inj ((h.2 i _ h1).2.symm.trans (h.2 j _ h2).2)
abbrev b_t_ctor : ByteArray := prog_1_method_1_code
def y_t_ctor : MethodName := ⟨R_T, "<init>", "()V"⟩
theorem d_t_ctor_0 : decode b_t_ctor 0 = .ok (.aload_n 0, 1) := by decide +kernel
theorem d_t_ctor_1 : decode b_t_ctor 1 = .ok (.invokespecial 3, 3) := by decide +kernel
theorem d_t_ctor_4 : decode b_t_ctor 4 = .ok (.aload_n 0, 1) := by decide +kernel
theorem d_t_ctor_5 : decode b_t_ctor 5 = .ok (.sipush 1001, 3) := by decide +kernel
theorem d_t_ctor_8 : decode b_t_ctor 8 = .ok (.newarray .int, 2) := by decide +kernel
theorem d_t_ctor_10 : decode b_t_ctor 10 = .ok (.putfield 9, 3) := by decide +kernel
theorem d_t_ctor_13 : decode b_t_ctor 13 = .ok (.aload_n 0, 1) := by decide +kernel
theorem d_t_ctor_14 : decode b_t_ctor 14 = .ok (.sipush 1001, 3) := by decide +kernel
theorem d_t_ctor_17 : decode b_t_ctor 17 = .ok (.newarray .int, 2) := by decide +kernel
theorem d_t_ctor_19 : decode b_t_ctor 19 = .ok (.putfield 13, 3) := by decide +kernel
theorem d_t_ctor_22 : decode b_t_ctor 22 = .ok (.aload_n 0, 1) := by decide +kernel
theorem d_t_ctor_23 : decode b_t_ctor 23 = .ok (.sipush 1001, 3) := by decide +kernel
theorem d_t_ctor_26 : decode b_t_ctor 26 = .ok (.newarray .int, 2) := by decide +kernel
theorem d_t_ctor_28 : decode b_t_ctor 28 = .ok (.putfield 16, 3) := by decide +kernel
theorem d_t_ctor_31 : decode b_t_ctor 31 = .ok (.aload_n 0, 1) := by decide +kernel
theorem d_t_ctor_32 : decode b_t_ctor 32 = .ok (.sipush 1001, 3) := by decide +kernel
theorem d_t_ctor_35 : decode b_t_ctor 35 = .ok (.newarray .int, 2) := by decide +kernel
theorem d_t_ctor_37 : decode b_t_ctor 37 = .ok (.putfield 19, 3) := by decide +kernel
theorem d_t_ctor_40 : decode b_t_ctor 40 = .ok (.aload_n 0, 1) := by decide +kernel
theorem d_t_ctor_41 : decode b_t_ctor 41 = .ok (.sipush 1001, 3) := by decide +kernel
theorem d_t_ctor_44 : decode b_t_ctor 44 = .ok (.newarray .int, 2) := by decide +kernel
theorem d_t_ctor_46 : decode b_t_ctor 46 = .ok (.putfield 22, 3) := by decide +kernel
theorem d_t_ctor_49 : decode b_t_ctor 49 = .ok (.aload_n 0, 1) := by decide +kernel
theorem d_t_ctor_50 : decode b_t_ctor 50 = .ok (.sipush 1001, 3) := by decide +kernel
theorem d_t_ctor_53 : decode b_t_ctor 53 = .ok (.newarray .int, 2) := by decide +kernel
theorem d_t_ctor_55 : decode b_t_ctor 55 = .ok (.putfield 25, 3) := by decide +kernel
theorem d_t_ctor_58 : decode b_t_ctor 58 = .ok (.aload_n 0, 1) := by decide +kernel
theorem d_t_ctor_59 : decode b_t_ctor 59 = .ok (.invokevirtual 28, 3) := by decide +kernel
theorem d_t_ctor_62 : decode b_t_ctor 62 = .ok (.return_, 1) := by decide +kernel
set_option maxHeartbeats 400000 in
set_option maxRecDepth 100000 in
theorem c_t_ctor (l : Launch) (D : va_G) (h0 sz : Nat) (S' : TS) (hj : j_t_init zT = some S') : Met l y_t_ctor (Cond.code y_t_ctor b_t_ctor 1 none :: gT) ({ frames := 2, cells := 6, slots := 6006, locals := 80 }) (va_Pc [.ref h0] (fun U => U.heap.size = sz ∧ va_P D classes [(h0, .inr (0, [.null, .null, .null, .null, .null, .null, .int 0, .int 0]))] U.heap ∧ va_K D classes [] U ∧ va_D (fun _ => True) ([(h0, .inr (0, [.null, .null, .null, .null, .null, .null, .int 0, .int 0]))] : va_W))) (va_Qv (fun u : (Nat → Nat) × ClassId => u.1 0 = h0) (fun u t => va_P D classes (wT u.1 u.2 S') t.heap ∧ va_K D classes [(u.2, .int)] t ∧ va_D (va_A [(h0, .inr (0, [.null, .null, .null, .null, .null, .null, .int 0, .int 0]))] sz) (wT u.1 u.2 S')) (va_A [(h0, .inr (0, [.null, .null, .null, .null, .null, .null, .int 0, .int 0]))] sz)) 6 6006 (va_A [(h0, .inr (0, [.null, .null, .null, .null, .null, .null, .int 0, .int 0]))] sz) := by
  refine Met.ofW (cc := b_t_ctor) (maxL := 1) (ret := none) (by decide) rfl ?_
  intro p e s m args below meth c s₁ B hml hv
  obtain ⟨rfl, hsz, hP, hK, hD0⟩ := hv
  have hx := B.exec
  have hb := B.bytes
  have hr := B.returns
  have hts : ∀ w ∈ gT, w.before #[Value.ref h0] s = true := fun w hw => atoms_spec (ws := Cond.code y_t_ctor b_t_ctor 1 none :: gT) B.pre w (List.mem_cons_of_mem _ hw)
  have hown : s.vm.findClass R_T = some m.cls := findClass_of_methodNamed B.named
  have hlocks := B.notSynchronized
  have hin : meth.name = "<init>" := (name_of_methodNamed B.named B.method).1
  subst hsz
  have hD := hD0.self (sz := s.heap.size)
  generalize hAe : va_A [(h0, .inr (0, [.null, .null, .null, .null, .null, .null, .int 0, .int 0]))] s.heap.size = A at hD ⊢
  have hA : ∀ q : Nat, s.heap.size ≤ q → A q := fun q h => by rw [← hAe]; exact Or.inr h
  have hS : va_S A s.heap s.heap [] := va_S.rf
  have hl := lv_entry ([.ref h0]) (n := 1) (Nat.le_of_ble_eq_true rfl)
  rw [lg_entry_eq]
  generalize (lg_sl ([.ref h0]) ++ List.replicate (1 - (lg_sl ([.ref h0])).length) Slot.unset).toArray = ls at hl ⊢
  have hl : lv_has ls 1 [(0, .ref h0)] := hl
  refine lv_aload_n hx hb d_t_ctor_0 rfl (lv_at hl 0 rfl) ?_
  refine W.objInit hx hb hown (hts (.methodLink R_T 3 objectInit) (by decide +kernel)) (hts (.instanceMethod objectInit) (by decide +kernel)) (hts (.code objectInit ⟨#[0xb1]⟩ 1 none) (gT_of (List.mem_of_getElem? (i := 26) rfl) rfl)) rfl (by rw [hml]; exact hl.1) rfl d_t_ctor_1 (Nat.le_of_ble_eq_true rfl) (Nat.le_of_ble_eq_true rfl) ?_
  refine W.eq (g2 := F0 m 4 ls []) rfl ?_
  refine lv_aload_n hx hb d_t_ctor_4 rfl (lv_at hl 0 rfl) ?_
  refine lv_sipush (v := 1001) hx hb d_t_ctor_5 (by decide) ?_
  refine va_newa (atype := .int) (ty := .int) (N' := 1001) (a0 := (1001, .inl (fun _ => 0))) hx hb (hts (.arrayClass .int) (by decide +kernel)) rfl hK hP hD hS hA (fun cA => vp_cell_i cA _ _) (by decide) (by decide) (by decide +kernel) (by decide +kernel) (by decide +kernel) d_t_ctor_8 (fun q1 cA0 H hK0 hP hD hS => ?_)
  have hK : va_K D classes [(cA0, .int)] s := hK0
  have hP : va_P D classes [(h0, .inr (0, [.null, .null, .null, .null, .null, .null, .int 0, .int 0])), (q1, .inl (cA0, 1001, .inl (fun _ => 0)))] H := hP
  have hD : va_D A ([(h0, .inr (0, [.null, .null, .null, .null, .null, .null, .int 0, .int 0])), (q1, .inl (cA0, 1001, .inl (fun _ => 0)))] : va_W) := hD
  refine W.widen (k := 1) (n := 1001) (by omega) (by omega) ?_
  refine va_putF (D := D) (ci := 0) (v := .ref q1) (ty := .array .int) (C := R_T) (T := F_T) (N := 8) hx hb hts fi_T ft_T fo_T fn_T hown hK hP hD hS 0 rfl rfl 0 (by decide) (hts _ fl_TB) (fun _ h9 => h9) rfl hin rfl (by decide +kernel) rfl rfl (Nat.le_of_ble_eq_true rfl) d_t_ctor_10 (fun H locs hP hD hS => ?_)
  have hP : va_P D classes [(h0, .inr (0, [.ref q1, .null, .null, .null, .null, .null, .int 0, .int 0])), (q1, .inl (cA0, 1001, .inl (fun _ => 0)))] H := hP
  have hD : va_D A ([(h0, .inr (0, [.ref q1, .null, .null, .null, .null, .null, .int 0, .int 0])), (q1, .inl (cA0, 1001, .inl (fun _ => 0)))] : va_W) := hD
  refine lv_aload_n hx hb d_t_ctor_13 rfl (lv_at hl 0 rfl) ?_
  refine lv_sipush (v := 1001) hx hb d_t_ctor_14 (by decide) ?_
  refine va_newa (atype := .int) (ty := .int) (N' := 1001) (a0 := (1001, .inl (fun _ => 0))) hx hb (hts (.arrayClass .int) (by decide +kernel)) rfl hK hP hD hS hA (fun cA => vp_cell_i cA _ _) (by decide) (by decide) (by decide +kernel) (by decide +kernel) (by decide +kernel) d_t_ctor_17 (fun q2 cA1 H hK1 hP hD hS => ?_)
  obtain rfl := kA_eq hK1 (i := 0) (j := 1) (c1 := cA0) (c2 := cA1) rfl rfl
  have hP : va_P D classes [(h0, .inr (0, [.ref q1, .null, .null, .null, .null, .null, .int 0, .int 0])), (q1, .inl (cA0, 1001, .inl (fun _ => 0))), (q2, .inl (cA0, 1001, .inl (fun _ => 0)))] H := hP
  have hD : va_D A ([(h0, .inr (0, [.ref q1, .null, .null, .null, .null, .null, .int 0, .int 0])), (q1, .inl (cA0, 1001, .inl (fun _ => 0))), (q2, .inl (cA0, 1001, .inl (fun _ => 0)))] : va_W) := hD
  refine W.widen (k := 2) (n := 2002) (by omega) (by omega) ?_
  refine va_putF (D := D) (ci := 0) (v := .ref q2) (ty := .array .int) (C := R_T) (T := F_T) (N := 8) hx hb hts fi_T ft_T fo_T fn_T hown hK hP hD hS 0 rfl rfl 1 (by decide) (hts _ fl_TL) (fun _ h9 => h9) rfl hin rfl (by decide +kernel) rfl rfl (Nat.le_of_ble_eq_true rfl) d_t_ctor_19 (fun H locs hP hD hS => ?_)
  have hP : va_P D classes [(h0, .inr (0, [.ref q1, .ref q2, .null, .null, .null, .null, .int 0, .int 0])), (q1, .inl (cA0, 1001, .inl (fun _ => 0))), (q2, .inl (cA0, 1001, .inl (fun _ => 0)))] H := hP
  have hD : va_D A ([(h0, .inr (0, [.ref q1, .ref q2, .null, .null, .null, .null, .int 0, .int 0])), (q1, .inl (cA0, 1001, .inl (fun _ => 0))), (q2, .inl (cA0, 1001, .inl (fun _ => 0)))] : va_W) := hD
  refine lv_aload_n hx hb d_t_ctor_22 rfl (lv_at hl 0 rfl) ?_
  refine lv_sipush (v := 1001) hx hb d_t_ctor_23 (by decide) ?_
  refine va_newa (atype := .int) (ty := .int) (N' := 1001) (a0 := (1001, .inl (fun _ => 0))) hx hb (hts (.arrayClass .int) (by decide +kernel)) rfl hK hP hD hS hA (fun cA => vp_cell_i cA _ _) (by decide) (by decide) (by decide +kernel) (by decide +kernel) (by decide +kernel) d_t_ctor_26 (fun q3 cA2 H hK2 hP hD hS => ?_)
  obtain rfl := kA_eq hK2 (i := 0) (j := 1) (c1 := cA0) (c2 := cA2) rfl rfl
  have hP : va_P D classes [(h0, .inr (0, [.ref q1, .ref q2, .null, .null, .null, .null, .int 0, .int 0])), (q1, .inl (cA0, 1001, .inl (fun _ => 0))), (q2, .inl (cA0, 1001, .inl (fun _ => 0))), (q3, .inl (cA0, 1001, .inl (fun _ => 0)))] H := hP
  have hD : va_D A ([(h0, .inr (0, [.ref q1, .ref q2, .null, .null, .null, .null, .int 0, .int 0])), (q1, .inl (cA0, 1001, .inl (fun _ => 0))), (q2, .inl (cA0, 1001, .inl (fun _ => 0))), (q3, .inl (cA0, 1001, .inl (fun _ => 0)))] : va_W) := hD
  refine W.widen (k := 3) (n := 3003) (by omega) (by omega) ?_
  refine va_putF (D := D) (ci := 0) (v := .ref q3) (ty := .array .int) (C := R_T) (T := F_T) (N := 8) hx hb hts fi_T ft_T fo_T fn_T hown hK hP hD hS 0 rfl rfl 2 (by decide) (hts _ fl_TH) (fun _ h9 => h9) rfl hin rfl (by decide +kernel) rfl rfl (Nat.le_of_ble_eq_true rfl) d_t_ctor_28 (fun H locs hP hD hS => ?_)
  have hP : va_P D classes [(h0, .inr (0, [.ref q1, .ref q2, .ref q3, .null, .null, .null, .int 0, .int 0])), (q1, .inl (cA0, 1001, .inl (fun _ => 0))), (q2, .inl (cA0, 1001, .inl (fun _ => 0))), (q3, .inl (cA0, 1001, .inl (fun _ => 0)))] H := hP
  have hD : va_D A ([(h0, .inr (0, [.ref q1, .ref q2, .ref q3, .null, .null, .null, .int 0, .int 0])), (q1, .inl (cA0, 1001, .inl (fun _ => 0))), (q2, .inl (cA0, 1001, .inl (fun _ => 0))), (q3, .inl (cA0, 1001, .inl (fun _ => 0)))] : va_W) := hD
  refine lv_aload_n hx hb d_t_ctor_31 rfl (lv_at hl 0 rfl) ?_
  refine lv_sipush (v := 1001) hx hb d_t_ctor_32 (by decide) ?_
  refine va_newa (atype := .int) (ty := .int) (N' := 1001) (a0 := (1001, .inl (fun _ => 0))) hx hb (hts (.arrayClass .int) (by decide +kernel)) rfl hK hP hD hS hA (fun cA => vp_cell_i cA _ _) (by decide) (by decide) (by decide +kernel) (by decide +kernel) (by decide +kernel) d_t_ctor_35 (fun q4 cA3 H hK3 hP hD hS => ?_)
  obtain rfl := kA_eq hK3 (i := 0) (j := 1) (c1 := cA0) (c2 := cA3) rfl rfl
  have hP : va_P D classes [(h0, .inr (0, [.ref q1, .ref q2, .ref q3, .null, .null, .null, .int 0, .int 0])), (q1, .inl (cA0, 1001, .inl (fun _ => 0))), (q2, .inl (cA0, 1001, .inl (fun _ => 0))), (q3, .inl (cA0, 1001, .inl (fun _ => 0))), (q4, .inl (cA0, 1001, .inl (fun _ => 0)))] H := hP
  have hD : va_D A ([(h0, .inr (0, [.ref q1, .ref q2, .ref q3, .null, .null, .null, .int 0, .int 0])), (q1, .inl (cA0, 1001, .inl (fun _ => 0))), (q2, .inl (cA0, 1001, .inl (fun _ => 0))), (q3, .inl (cA0, 1001, .inl (fun _ => 0))), (q4, .inl (cA0, 1001, .inl (fun _ => 0)))] : va_W) := hD
  refine W.widen (k := 4) (n := 4004) (by omega) (by omega) ?_
  refine va_putF (D := D) (ci := 0) (v := .ref q4) (ty := .array .int) (C := R_T) (T := F_T) (N := 8) hx hb hts fi_T ft_T fo_T fn_T hown hK hP hD hS 0 rfl rfl 3 (by decide) (hts _ fl_TZ) (fun _ h9 => h9) rfl hin rfl (by decide +kernel) rfl rfl (Nat.le_of_ble_eq_true rfl) d_t_ctor_37 (fun H locs hP hD hS => ?_)
  have hP : va_P D classes [(h0, .inr (0, [.ref q1, .ref q2, .ref q3, .ref q4, .null, .null, .int 0, .int 0])), (q1, .inl (cA0, 1001, .inl (fun _ => 0))), (q2, .inl (cA0, 1001, .inl (fun _ => 0))), (q3, .inl (cA0, 1001, .inl (fun _ => 0))), (q4, .inl (cA0, 1001, .inl (fun _ => 0)))] H := hP
  have hD : va_D A ([(h0, .inr (0, [.ref q1, .ref q2, .ref q3, .ref q4, .null, .null, .int 0, .int 0])), (q1, .inl (cA0, 1001, .inl (fun _ => 0))), (q2, .inl (cA0, 1001, .inl (fun _ => 0))), (q3, .inl (cA0, 1001, .inl (fun _ => 0))), (q4, .inl (cA0, 1001, .inl (fun _ => 0)))] : va_W) := hD
  refine lv_aload_n hx hb d_t_ctor_40 rfl (lv_at hl 0 rfl) ?_
  refine lv_sipush (v := 1001) hx hb d_t_ctor_41 (by decide) ?_
  refine va_newa (atype := .int) (ty := .int) (N' := 1001) (a0 := (1001, .inl (fun _ => 0))) hx hb (hts (.arrayClass .int) (by decide +kernel)) rfl hK hP hD hS hA (fun cA => vp_cell_i cA _ _) (by decide) (by decide) (by decide +kernel) (by decide +kernel) (by decide +kernel) d_t_ctor_44 (fun q5 cA4 H hK4 hP hD hS => ?_)
  obtain rfl := kA_eq hK4 (i := 0) (j := 1) (c1 := cA0) (c2 := cA4) rfl rfl
  have hP : va_P D classes [(h0, .inr (0, [.ref q1, .ref q2, .ref q3, .ref q4, .null, .null, .int 0, .int 0])), (q1, .inl (cA0, 1001, .inl (fun _ => 0))), (q2, .inl (cA0, 1001, .inl (fun _ => 0))), (q3, .inl (cA0, 1001, .inl (fun _ => 0))), (q4, .inl (cA0, 1001, .inl (fun _ => 0))), (q5, .inl (cA0, 1001, .inl (fun _ => 0)))] H := hP
  have hD : va_D A ([(h0, .inr (0, [.ref q1, .ref q2, .ref q3, .ref q4, .null, .null, .int 0, .int 0])), (q1, .inl (cA0, 1001, .inl (fun _ => 0))), (q2, .inl (cA0, 1001, .inl (fun _ => 0))), (q3, .inl (cA0, 1001, .inl (fun _ => 0))), (q4, .inl (cA0, 1001, .inl (fun _ => 0))), (q5, .inl (cA0, 1001, .inl (fun _ => 0)))] : va_W) := hD
  refine W.widen (k := 5) (n := 5005) (by omega) (by omega) ?_
  refine va_putF (D := D) (ci := 0) (v := .ref q5) (ty := .array .int) (C := R_T) (T := F_T) (N := 8) hx hb hts fi_T ft_T fo_T fn_T hown hK hP hD hS 0 rfl rfl 4 (by decide) (hts _ fl_TO) (fun _ h9 => h9) rfl hin rfl (by decide +kernel) rfl rfl (Nat.le_of_ble_eq_true rfl) d_t_ctor_46 (fun H locs hP hD hS => ?_)
  have hP : va_P D classes [(h0, .inr (0, [.ref q1, .ref q2, .ref q3, .ref q4, .ref q5, .null, .int 0, .int 0])), (q1, .inl (cA0, 1001, .inl (fun _ => 0))), (q2, .inl (cA0, 1001, .inl (fun _ => 0))), (q3, .inl (cA0, 1001, .inl (fun _ => 0))), (q4, .inl (cA0, 1001, .inl (fun _ => 0))), (q5, .inl (cA0, 1001, .inl (fun _ => 0)))] H := hP
  have hD : va_D A ([(h0, .inr (0, [.ref q1, .ref q2, .ref q3, .ref q4, .ref q5, .null, .int 0, .int 0])), (q1, .inl (cA0, 1001, .inl (fun _ => 0))), (q2, .inl (cA0, 1001, .inl (fun _ => 0))), (q3, .inl (cA0, 1001, .inl (fun _ => 0))), (q4, .inl (cA0, 1001, .inl (fun _ => 0))), (q5, .inl (cA0, 1001, .inl (fun _ => 0)))] : va_W) := hD
  refine lv_aload_n hx hb d_t_ctor_49 rfl (lv_at hl 0 rfl) ?_
  refine lv_sipush (v := 1001) hx hb d_t_ctor_50 (by decide) ?_
  refine va_newa (atype := .int) (ty := .int) (N' := 1001) (a0 := (1001, .inl (fun _ => 0))) hx hb (hts (.arrayClass .int) (by decide +kernel)) rfl hK hP hD hS hA (fun cA => vp_cell_i cA _ _) (by decide) (by decide) (by decide +kernel) (by decide +kernel) (by decide +kernel) d_t_ctor_53 (fun q6 cA5 H hK5 hP hD hS => ?_)
  obtain rfl := kA_eq hK5 (i := 0) (j := 1) (c1 := cA0) (c2 := cA5) rfl rfl
  have hP : va_P D classes [(h0, .inr (0, [.ref q1, .ref q2, .ref q3, .ref q4, .ref q5, .null, .int 0, .int 0])), (q1, .inl (cA0, 1001, .inl (fun _ => 0))), (q2, .inl (cA0, 1001, .inl (fun _ => 0))), (q3, .inl (cA0, 1001, .inl (fun _ => 0))), (q4, .inl (cA0, 1001, .inl (fun _ => 0))), (q5, .inl (cA0, 1001, .inl (fun _ => 0))), (q6, .inl (cA0, 1001, .inl (fun _ => 0)))] H := hP
  have hD : va_D A ([(h0, .inr (0, [.ref q1, .ref q2, .ref q3, .ref q4, .ref q5, .null, .int 0, .int 0])), (q1, .inl (cA0, 1001, .inl (fun _ => 0))), (q2, .inl (cA0, 1001, .inl (fun _ => 0))), (q3, .inl (cA0, 1001, .inl (fun _ => 0))), (q4, .inl (cA0, 1001, .inl (fun _ => 0))), (q5, .inl (cA0, 1001, .inl (fun _ => 0))), (q6, .inl (cA0, 1001, .inl (fun _ => 0)))] : va_W) := hD
  refine W.widen (k := 6) (n := 6006) (by omega) (by omega) ?_
  refine va_putF (D := D) (ci := 0) (v := .ref q6) (ty := .array .int) (C := R_T) (T := F_T) (N := 8) hx hb hts fi_T ft_T fo_T fn_T hown hK hP hD hS 0 rfl rfl 5 (by decide) (hts _ fl_TW) (fun _ h9 => h9) rfl hin rfl (by decide +kernel) rfl rfl (Nat.le_of_ble_eq_true rfl) d_t_ctor_55 (fun H locs hP hD hS => ?_)
  have hP : va_P D classes [(h0, .inr (0, [.ref q1, .ref q2, .ref q3, .ref q4, .ref q5, .ref q6, .int 0, .int 0])), (q1, .inl (cA0, 1001, .inl (fun _ => 0))), (q2, .inl (cA0, 1001, .inl (fun _ => 0))), (q3, .inl (cA0, 1001, .inl (fun _ => 0))), (q4, .inl (cA0, 1001, .inl (fun _ => 0))), (q5, .inl (cA0, 1001, .inl (fun _ => 0))), (q6, .inl (cA0, 1001, .inl (fun _ => 0)))] H := hP
  have hD : va_D A ([(h0, .inr (0, [.ref q1, .ref q2, .ref q3, .ref q4, .ref q5, .ref q6, .int 0, .int 0])), (q1, .inl (cA0, 1001, .inl (fun _ => 0))), (q2, .inl (cA0, 1001, .inl (fun _ => 0))), (q3, .inl (cA0, 1001, .inl (fun _ => 0))), (q4, .inl (cA0, 1001, .inl (fun _ => 0))), (q5, .inl (cA0, 1001, .inl (fun _ => 0))), (q6, .inl (cA0, 1001, .inl (fun _ => 0)))] : va_W) := hD
  obtain ⟨a, ha⟩ : ∃ a : Nat → Nat, a 0 = h0 ∧ a 1 = q1 ∧ a 2 = q2 ∧ a 3 = q3 ∧ a 4 = q4 ∧ a 5 = q5 ∧ a 6 = q6 := ⟨fun k => match k with | 0 => h0 | 1 => q1 | 2 => q2 | 3 => q3 | 4 => q4 | 5 => q5 | 6 => q6 | _ => 0, rfl, rfl, rfl, rfl, rfl, rfl, rfl⟩
  obtain ⟨e0, e1, e2, e3, e4, e5, e6⟩ := ha
  have hP : va_P D classes (wT a cA0 zT) H := by
    have h9 : wT a cA0 zT = [(h0, .inr (0, [.ref q1, .ref q2, .ref q3, .ref q4, .ref q5, .ref q6, .int 0, .int 0])), (q1, .inl (cA0, 1001, .inl (fun _ => 0))), (q2, .inl (cA0, 1001, .inl (fun _ => 0))), (q3, .inl (cA0, 1001, .inl (fun _ => 0))), (q4, .inl (cA0, 1001, .inl (fun _ => 0))), (q5, .inl (cA0, 1001, .inl (fun _ => 0))), (q6, .inl (cA0, 1001, .inl (fun _ => 0)))] := by
      show [(a 0, _), (a 1, _), (a 2, _), (a 3, _), (a 4, _), (a 5, _), (a 6, _)] = _
      rw [e0, e1, e2, e3, e4, e5, e6]
      rfl
    rw [h9]; exact hP
  have hD : va_D A (wT a cA0 zT) := by
    have h9 : wT a cA0 zT = [(h0, .inr (0, [.ref q1, .ref q2, .ref q3, .ref q4, .ref q5, .ref q6, .int 0, .int 0])), (q1, .inl (cA0, 1001, .inl (fun _ => 0))), (q2, .inl (cA0, 1001, .inl (fun _ => 0))), (q3, .inl (cA0, 1001, .inl (fun _ => 0))), (q4, .inl (cA0, 1001, .inl (fun _ => 0))), (q5, .inl (cA0, 1001, .inl (fun _ => 0))), (q6, .inl (cA0, 1001, .inl (fun _ => 0)))] := by
      show [(a 0, _), (a 1, _), (a 2, _), (a 3, _), (a 4, _), (a 5, _), (a 6, _)] = _
      rw [e0, e1, e2, e3, e4, e5, e6]
      rfl
    rw [h9]; exact hD
  have hAi : ∀ i, i < 7 → A (a i) := by
    intro i hi
    match i, hi with
    | 0, _ => exact hD.2 0 _ rfl
    | 1, _ => exact hD.2 1 _ rfl
    | 2, _ => exact hD.2 2 _ rfl
    | 3, _ => exact hD.2 3 _ rfl
    | 4, _ => exact hD.2 4 _ rfl
    | 5, _ => exact hD.2 5 _ rfl
    | 6, _ => exact hD.2 6 _ rfl
    | i + 7, hi => omega
  have hDU := dU_T hD hAi
  rw [← e0] at hl
  refine lv_aload_n hx hb d_t_ctor_58 rfl (lv_at hl 0 rfl) ?_
  refine T_callM (As := []) (rest := []) (v := none) (S' := S') ⟨hx, hb, hml, hown, hts⟩ hK hDU hP hS (c_t_init l D a cA0 zT S' hj) k_t_init lk_t_28 ⟨Nat.le_of_ble_eq_true rfl, Nat.le_of_ble_eq_true rfl⟩ rfl hl.1 rfl (Nat.le_of_ble_eq_true rfl) d_t_ctor_59 ⟨Nat.le_of_ble_eq_true rfl, Nat.le_of_ble_eq_true rfl⟩ (fun H locs hP hS _ _ => ?_)
  refine W.eq (g2 := F0 m 62 ls []) rfl ?_
  exact W.vret hx hb hr (fun t ht hW => ⟨⟨(a, cA0), rfl, e0, by rw [ht]; exact hP, va_K.moved hW.alike hK, hDU S'⟩, hS.F ht⟩) hS.2.2 d_t_ctor_62
abbrev b_m_ctor : ByteArray := prog_3_method_1_code
def y_m_ctor : MethodName := ⟨R_M, "<init>", "()V"⟩
theorem d_m_ctor_0 : decode b_m_ctor 0 = .ok (.aload_n 0, 1) := by decide +kernel
theorem d_m_ctor_1 : decode b_m_ctor 1 = .ok (.invokespecial 1, 3) := by decide +kernel
theorem d_m_ctor_4 : decode b_m_ctor 4 = .ok (.aload_n 0, 1) := by decide +kernel
theorem d_m_ctor_5 : decode b_m_ctor 5 = .ok (.sipush 500, 3) := by decide +kernel
theorem d_m_ctor_8 : decode b_m_ctor 8 = .ok (.newarray .int, 2) := by decide +kernel
theorem d_m_ctor_10 : decode b_m_ctor 10 = .ok (.putfield 7, 3) := by decide +kernel
theorem d_m_ctor_13 : decode b_m_ctor 13 = .ok (.aload_n 0, 1) := by decide +kernel
theorem d_m_ctor_14 : decode b_m_ctor 14 = .ok (.sipush 500, 3) := by decide +kernel
theorem d_m_ctor_17 : decode b_m_ctor 17 = .ok (.newarray .int, 2) := by decide +kernel
theorem d_m_ctor_19 : decode b_m_ctor 19 = .ok (.putfield 13, 3) := by decide +kernel
theorem d_m_ctor_22 : decode b_m_ctor 22 = .ok (.aload_n 0, 1) := by decide +kernel
theorem d_m_ctor_23 : decode b_m_ctor 23 = .ok (.sipush 500, 3) := by decide +kernel
theorem d_m_ctor_26 : decode b_m_ctor 26 = .ok (.newarray .int, 2) := by decide +kernel
theorem d_m_ctor_28 : decode b_m_ctor 28 = .ok (.putfield 16, 3) := by decide +kernel
theorem d_m_ctor_31 : decode b_m_ctor 31 = .ok (.aload_n 0, 1) := by decide +kernel
theorem d_m_ctor_32 : decode b_m_ctor 32 = .ok (.sipush 1000, 3) := by decide +kernel
theorem d_m_ctor_35 : decode b_m_ctor 35 = .ok (.newarray .int, 2) := by decide +kernel
theorem d_m_ctor_37 : decode b_m_ctor 37 = .ok (.putfield 19, 3) := by decide +kernel
theorem d_m_ctor_40 : decode b_m_ctor 40 = .ok (.aload_n 0, 1) := by decide +kernel
theorem d_m_ctor_41 : decode b_m_ctor 41 = .ok (.sipush 1000, 3) := by decide +kernel
theorem d_m_ctor_44 : decode b_m_ctor 44 = .ok (.newarray .int, 2) := by decide +kernel
theorem d_m_ctor_46 : decode b_m_ctor 46 = .ok (.putfield 22, 3) := by decide +kernel
theorem d_m_ctor_49 : decode b_m_ctor 49 = .ok (.return_, 1) := by decide +kernel
set_option maxHeartbeats 400000 in
set_option maxRecDepth 100000 in
theorem c_m_ctor (l : Launch) (D : va_G) (h0 sz : Nat) : Met l y_m_ctor (Cond.code y_m_ctor b_m_ctor 1 none :: gT) ({ frames := 2, cells := 5, slots := 3500, locals := 80 }) (va_Pc [.ref h0] (fun U => U.heap.size = sz ∧ va_P D classes [(h0, .inr (1, [.int 0, .null, .null, .null, .int 0, .null, .null, .int 0]))] U.heap ∧ va_K D classes [] U ∧ va_D (fun _ => True) ([(h0, .inr (1, [.int 0, .null, .null, .null, .int 0, .null, .null, .int 0]))] : va_W))) (va_Qv (fun u : (Nat → Nat) × ClassId => u.1 0 = h0) (fun u t => va_P D classes (wM u.1 u.2 zM) t.heap ∧ va_K D classes [(u.2, .int)] t ∧ va_D (va_A [(h0, .inr (1, [.int 0, .null, .null, .null, .int 0, .null, .null, .int 0]))] sz) (wM u.1 u.2 zM)) (va_A [(h0, .inr (1, [.int 0, .null, .null, .null, .int 0, .null, .null, .int 0]))] sz)) 5 3500 (va_A [(h0, .inr (1, [.int 0, .null, .null, .null, .int 0, .null, .null, .int 0]))] sz) := by
  refine Met.ofW (cc := b_m_ctor) (maxL := 1) (ret := none) (by decide) rfl ?_
  intro p e s m args below meth c s₁ B hml hv
  obtain ⟨rfl, hsz, hP, hK, hD0⟩ := hv
  have hx := B.exec
  have hb := B.bytes
  have hr := B.returns
  have hts : ∀ w ∈ gT, w.before #[Value.ref h0] s = true := fun w hw => atoms_spec (ws := Cond.code y_m_ctor b_m_ctor 1 none :: gT) B.pre w (List.mem_cons_of_mem _ hw)
  have hown : s.vm.findClass R_M = some m.cls := findClass_of_methodNamed B.named
  have hlocks := B.notSynchronized
  have hin : meth.name = "<init>" := (name_of_methodNamed B.named B.method).1
  subst hsz
  have hD := hD0.self (sz := s.heap.size)
  generalize hAe : va_A [(h0, .inr (1, [.int 0, .null, .null, .null, .int 0, .null, .null, .int 0]))] s.heap.size = A at hD ⊢
  have hA : ∀ q : Nat, s.heap.size ≤ q → A q := fun q h => by rw [← hAe]; exact Or.inr h
  have hS : va_S A s.heap s.heap [] := va_S.rf
  have hl := lv_entry ([.ref h0]) (n := 1) (Nat.le_of_ble_eq_true rfl)
  rw [lg_entry_eq]
  generalize (lg_sl ([.ref h0]) ++ List.replicate (1 - (lg_sl ([.ref h0])).length) Slot.unset).toArray = ls at hl ⊢
  have hl : lv_has ls 1 [(0, .ref h0)] := hl
  refine lv_aload_n hx hb d_m_ctor_0 rfl (lv_at hl 0 rfl) ?_
  refine W.objInit hx hb hown (hts (.methodLink R_M 1 objectInit) (by decide +kernel)) (hts (.instanceMethod objectInit) (by decide +kernel)) (hts (.code objectInit ⟨#[0xb1]⟩ 1 none) (gT_of (List.mem_of_getElem? (i := 26) rfl) rfl)) rfl (by rw [hml]; exact hl.1) rfl d_m_ctor_1 (Nat.le_of_ble_eq_true rfl) (Nat.le_of_ble_eq_true rfl) ?_
  refine W.eq (g2 := F0 m 4 ls []) rfl ?_
  refine lv_aload_n hx hb d_m_ctor_4 rfl (lv_at hl 0 rfl) ?_
  refine lv_sipush (v := 500) hx hb d_m_ctor_5 (by decide) ?_
  refine va_newa (atype := .int) (ty := .int) (N' := 500) (a0 := (500, .inl (fun _ => 0))) hx hb (hts (.arrayClass .int) (by decide +kernel)) rfl hK hP hD hS hA (fun cA => vp_cell_i cA _ _) (by decide) (by decide) (by decide +kernel) (by decide +kernel) (by decide +kernel) d_m_ctor_8 (fun q1 cA0 H hK0 hP hD hS => ?_)
  have hK : va_K D classes [(cA0, .int)] s := hK0
  have hP : va_P D classes [(h0, .inr (1, [.int 0, .null, .null, .null, .int 0, .null, .null, .int 0])), (q1, .inl (cA0, 500, .inl (fun _ => 0)))] H := hP
  have hD : va_D A ([(h0, .inr (1, [.int 0, .null, .null, .null, .int 0, .null, .null, .int 0])), (q1, .inl (cA0, 500, .inl (fun _ => 0)))] : va_W) := hD
  refine W.widen (k := 1) (n := 500) (by omega) (by omega) ?_
  refine va_putF (D := D) (ci := 1) (v := .ref q1) (ty := .array .int) (C := R_M) (T := F_M) (N := 8) hx hb hts fi_M ft_M fo_M fn_M hown hK hP hD hS 0 rfl rfl 1 (by decide) (hts _ fl_MB) (fun _ h9 => h9) rfl hin rfl (by decide +kernel) rfl rfl (Nat.le_of_ble_eq_true rfl) d_m_ctor_10 (fun H locs hP hD hS => ?_)
  have hP : va_P D classes [(h0, .inr (1, [.int 0, .ref q1, .null, .null, .int 0, .null, .null, .int 0])), (q1, .inl (cA0, 500, .inl (fun _ => 0)))] H := hP
  have hD : va_D A ([(h0, .inr (1, [.int 0, .ref q1, .null, .null, .int 0, .null, .null, .int 0])), (q1, .inl (cA0, 500, .inl (fun _ => 0)))] : va_W) := hD
  refine lv_aload_n hx hb d_m_ctor_13 rfl (lv_at hl 0 rfl) ?_
  refine lv_sipush (v := 500) hx hb d_m_ctor_14 (by decide) ?_
  refine va_newa (atype := .int) (ty := .int) (N' := 500) (a0 := (500, .inl (fun _ => 0))) hx hb (hts (.arrayClass .int) (by decide +kernel)) rfl hK hP hD hS hA (fun cA => vp_cell_i cA _ _) (by decide) (by decide) (by decide +kernel) (by decide +kernel) (by decide +kernel) d_m_ctor_17 (fun q2 cA1 H hK1 hP hD hS => ?_)
  obtain rfl := kA_eq hK1 (i := 0) (j := 1) (c1 := cA0) (c2 := cA1) rfl rfl
  have hP : va_P D classes [(h0, .inr (1, [.int 0, .ref q1, .null, .null, .int 0, .null, .null, .int 0])), (q1, .inl (cA0, 500, .inl (fun _ => 0))), (q2, .inl (cA0, 500, .inl (fun _ => 0)))] H := hP
  have hD : va_D A ([(h0, .inr (1, [.int 0, .ref q1, .null, .null, .int 0, .null, .null, .int 0])), (q1, .inl (cA0, 500, .inl (fun _ => 0))), (q2, .inl (cA0, 500, .inl (fun _ => 0)))] : va_W) := hD
  refine W.widen (k := 2) (n := 1000) (by omega) (by omega) ?_
  refine va_putF (D := D) (ci := 1) (v := .ref q2) (ty := .array .int) (C := R_M) (T := F_M) (N := 8) hx hb hts fi_M ft_M fo_M fn_M hown hK hP hD hS 0 rfl rfl 2 (by decide) (hts _ fl_ML) (fun _ h9 => h9) rfl hin rfl (by decide +kernel) rfl rfl (Nat.le_of_ble_eq_true rfl) d_m_ctor_19 (fun H locs hP hD hS => ?_)
  have hP : va_P D classes [(h0, .inr (1, [.int 0, .ref q1, .ref q2, .null, .int 0, .null, .null, .int 0])), (q1, .inl (cA0, 500, .inl (fun _ => 0))), (q2, .inl (cA0, 500, .inl (fun _ => 0)))] H := hP
  have hD : va_D A ([(h0, .inr (1, [.int 0, .ref q1, .ref q2, .null, .int 0, .null, .null, .int 0])), (q1, .inl (cA0, 500, .inl (fun _ => 0))), (q2, .inl (cA0, 500, .inl (fun _ => 0)))] : va_W) := hD
  refine lv_aload_n hx hb d_m_ctor_22 rfl (lv_at hl 0 rfl) ?_
  refine lv_sipush (v := 500) hx hb d_m_ctor_23 (by decide) ?_
  refine va_newa (atype := .int) (ty := .int) (N' := 500) (a0 := (500, .inl (fun _ => 0))) hx hb (hts (.arrayClass .int) (by decide +kernel)) rfl hK hP hD hS hA (fun cA => vp_cell_i cA _ _) (by decide) (by decide) (by decide +kernel) (by decide +kernel) (by decide +kernel) d_m_ctor_26 (fun q3 cA2 H hK2 hP hD hS => ?_)
  obtain rfl := kA_eq hK2 (i := 0) (j := 1) (c1 := cA0) (c2 := cA2) rfl rfl
  have hP : va_P D classes [(h0, .inr (1, [.int 0, .ref q1, .ref q2, .null, .int 0, .null, .null, .int 0])), (q1, .inl (cA0, 500, .inl (fun _ => 0))), (q2, .inl (cA0, 500, .inl (fun _ => 0))), (q3, .inl (cA0, 500, .inl (fun _ => 0)))] H := hP
  have hD : va_D A ([(h0, .inr (1, [.int 0, .ref q1, .ref q2, .null, .int 0, .null, .null, .int 0])), (q1, .inl (cA0, 500, .inl (fun _ => 0))), (q2, .inl (cA0, 500, .inl (fun _ => 0))), (q3, .inl (cA0, 500, .inl (fun _ => 0)))] : va_W) := hD
  refine W.widen (k := 3) (n := 1500) (by omega) (by omega) ?_
  refine va_putF (D := D) (ci := 1) (v := .ref q3) (ty := .array .int) (C := R_M) (T := F_M) (N := 8) hx hb hts fi_M ft_M fo_M fn_M hown hK hP hD hS 0 rfl rfl 3 (by decide) (hts _ fl_MH) (fun _ h9 => h9) rfl hin rfl (by decide +kernel) rfl rfl (Nat.le_of_ble_eq_true rfl) d_m_ctor_28 (fun H locs hP hD hS => ?_)
  have hP : va_P D classes [(h0, .inr (1, [.int 0, .ref q1, .ref q2, .ref q3, .int 0, .null, .null, .int 0])), (q1, .inl (cA0, 500, .inl (fun _ => 0))), (q2, .inl (cA0, 500, .inl (fun _ => 0))), (q3, .inl (cA0, 500, .inl (fun _ => 0)))] H := hP
  have hD : va_D A ([(h0, .inr (1, [.int 0, .ref q1, .ref q2, .ref q3, .int 0, .null, .null, .int 0])), (q1, .inl (cA0, 500, .inl (fun _ => 0))), (q2, .inl (cA0, 500, .inl (fun _ => 0))), (q3, .inl (cA0, 500, .inl (fun _ => 0)))] : va_W) := hD
  refine lv_aload_n hx hb d_m_ctor_31 rfl (lv_at hl 0 rfl) ?_
  refine lv_sipush (v := 1000) hx hb d_m_ctor_32 (by decide) ?_
  refine va_newa (atype := .int) (ty := .int) (N' := 1000) (a0 := (1000, .inl (fun _ => 0))) hx hb (hts (.arrayClass .int) (by decide +kernel)) rfl hK hP hD hS hA (fun cA => vp_cell_i cA _ _) (by decide) (by decide) (by decide +kernel) (by decide +kernel) (by decide +kernel) d_m_ctor_35 (fun q4 cA3 H hK3 hP hD hS => ?_)
  obtain rfl := kA_eq hK3 (i := 0) (j := 1) (c1 := cA0) (c2 := cA3) rfl rfl
  have hP : va_P D classes [(h0, .inr (1, [.int 0, .ref q1, .ref q2, .ref q3, .int 0, .null, .null, .int 0])), (q1, .inl (cA0, 500, .inl (fun _ => 0))), (q2, .inl (cA0, 500, .inl (fun _ => 0))), (q3, .inl (cA0, 500, .inl (fun _ => 0))), (q4, .inl (cA0, 1000, .inl (fun _ => 0)))] H := hP
  have hD : va_D A ([(h0, .inr (1, [.int 0, .ref q1, .ref q2, .ref q3, .int 0, .null, .null, .int 0])), (q1, .inl (cA0, 500, .inl (fun _ => 0))), (q2, .inl (cA0, 500, .inl (fun _ => 0))), (q3, .inl (cA0, 500, .inl (fun _ => 0))), (q4, .inl (cA0, 1000, .inl (fun _ => 0)))] : va_W) := hD
  refine W.widen (k := 4) (n := 2500) (by omega) (by omega) ?_
  refine va_putF (D := D) (ci := 1) (v := .ref q4) (ty := .array .int) (C := R_M) (T := F_M) (N := 8) hx hb hts fi_M ft_M fo_M fn_M hown hK hP hD hS 0 rfl rfl 5 (by decide) (hts _ fl_MP) (fun _ h9 => h9) rfl hin rfl (by decide +kernel) rfl rfl (Nat.le_of_ble_eq_true rfl) d_m_ctor_37 (fun H locs hP hD hS => ?_)
  have hP : va_P D classes [(h0, .inr (1, [.int 0, .ref q1, .ref q2, .ref q3, .int 0, .ref q4, .null, .int 0])), (q1, .inl (cA0, 500, .inl (fun _ => 0))), (q2, .inl (cA0, 500, .inl (fun _ => 0))), (q3, .inl (cA0, 500, .inl (fun _ => 0))), (q4, .inl (cA0, 1000, .inl (fun _ => 0)))] H := hP
  have hD : va_D A ([(h0, .inr (1, [.int 0, .ref q1, .ref q2, .ref q3, .int 0, .ref q4, .null, .int 0])), (q1, .inl (cA0, 500, .inl (fun _ => 0))), (q2, .inl (cA0, 500, .inl (fun _ => 0))), (q3, .inl (cA0, 500, .inl (fun _ => 0))), (q4, .inl (cA0, 1000, .inl (fun _ => 0)))] : va_W) := hD
  refine lv_aload_n hx hb d_m_ctor_40 rfl (lv_at hl 0 rfl) ?_
  refine lv_sipush (v := 1000) hx hb d_m_ctor_41 (by decide) ?_
  refine va_newa (atype := .int) (ty := .int) (N' := 1000) (a0 := (1000, .inl (fun _ => 0))) hx hb (hts (.arrayClass .int) (by decide +kernel)) rfl hK hP hD hS hA (fun cA => vp_cell_i cA _ _) (by decide) (by decide) (by decide +kernel) (by decide +kernel) (by decide +kernel) d_m_ctor_44 (fun q5 cA4 H hK4 hP hD hS => ?_)
  obtain rfl := kA_eq hK4 (i := 0) (j := 1) (c1 := cA0) (c2 := cA4) rfl rfl
  have hP : va_P D classes [(h0, .inr (1, [.int 0, .ref q1, .ref q2, .ref q3, .int 0, .ref q4, .null, .int 0])), (q1, .inl (cA0, 500, .inl (fun _ => 0))), (q2, .inl (cA0, 500, .inl (fun _ => 0))), (q3, .inl (cA0, 500, .inl (fun _ => 0))), (q4, .inl (cA0, 1000, .inl (fun _ => 0))), (q5, .inl (cA0, 1000, .inl (fun _ => 0)))] H := hP
  have hD : va_D A ([(h0, .inr (1, [.int 0, .ref q1, .ref q2, .ref q3, .int 0, .ref q4, .null, .int 0])), (q1, .inl (cA0, 500, .inl (fun _ => 0))), (q2, .inl (cA0, 500, .inl (fun _ => 0))), (q3, .inl (cA0, 500, .inl (fun _ => 0))), (q4, .inl (cA0, 1000, .inl (fun _ => 0))), (q5, .inl (cA0, 1000, .inl (fun _ => 0)))] : va_W) := hD
  refine W.widen (k := 5) (n := 3500) (by omega) (by omega) ?_
  refine va_putF (D := D) (ci := 1) (v := .ref q5) (ty := .array .int) (C := R_M) (T := F_M) (N := 8) hx hb hts fi_M ft_M fo_M fn_M hown hK hP hD hS 0 rfl rfl 6 (by decide) (hts _ fl_MQ) (fun _ h9 => h9) rfl hin rfl (by decide +kernel) rfl rfl (Nat.le_of_ble_eq_true rfl) d_m_ctor_46 (fun H locs hP hD hS => ?_)
  have hP : va_P D classes [(h0, .inr (1, [.int 0, .ref q1, .ref q2, .ref q3, .int 0, .ref q4, .ref q5, .int 0])), (q1, .inl (cA0, 500, .inl (fun _ => 0))), (q2, .inl (cA0, 500, .inl (fun _ => 0))), (q3, .inl (cA0, 500, .inl (fun _ => 0))), (q4, .inl (cA0, 1000, .inl (fun _ => 0))), (q5, .inl (cA0, 1000, .inl (fun _ => 0)))] H := hP
  have hD : va_D A ([(h0, .inr (1, [.int 0, .ref q1, .ref q2, .ref q3, .int 0, .ref q4, .ref q5, .int 0])), (q1, .inl (cA0, 500, .inl (fun _ => 0))), (q2, .inl (cA0, 500, .inl (fun _ => 0))), (q3, .inl (cA0, 500, .inl (fun _ => 0))), (q4, .inl (cA0, 1000, .inl (fun _ => 0))), (q5, .inl (cA0, 1000, .inl (fun _ => 0)))] : va_W) := hD
  obtain ⟨a, ha⟩ : ∃ a : Nat → Nat, a 0 = h0 ∧ a 1 = q1 ∧ a 2 = q2 ∧ a 3 = q3 ∧ a 4 = q4 ∧ a 5 = q5 := ⟨fun k => match k with | 0 => h0 | 1 => q1 | 2 => q2 | 3 => q3 | 4 => q4 | 5 => q5 | _ => 0, rfl, rfl, rfl, rfl, rfl, rfl⟩
  obtain ⟨e0, e1, e2, e3, e4, e5⟩ := ha
  have hP : va_P D classes (wM a cA0 zM) H := by
    have h9 : wM a cA0 zM = [(h0, .inr (1, [.int 0, .ref q1, .ref q2, .ref q3, .int 0, .ref q4, .ref q5, .int 0])), (q1, .inl (cA0, 500, .inl (fun _ => 0))), (q2, .inl (cA0, 500, .inl (fun _ => 0))), (q3, .inl (cA0, 500, .inl (fun _ => 0))), (q4, .inl (cA0, 1000, .inl (fun _ => 0))), (q5, .inl (cA0, 1000, .inl (fun _ => 0)))] := by
      show [(a 0, _), (a 1, _), (a 2, _), (a 3, _), (a 4, _), (a 5, _)] = _
      rw [e0, e1, e2, e3, e4, e5]
      rfl
    rw [h9]; exact hP
  have hD : va_D A (wM a cA0 zM) := by
    have h9 : wM a cA0 zM = [(h0, .inr (1, [.int 0, .ref q1, .ref q2, .ref q3, .int 0, .ref q4, .ref q5, .int 0])), (q1, .inl (cA0, 500, .inl (fun _ => 0))), (q2, .inl (cA0, 500, .inl (fun _ => 0))), (q3, .inl (cA0, 500, .inl (fun _ => 0))), (q4, .inl (cA0, 1000, .inl (fun _ => 0))), (q5, .inl (cA0, 1000, .inl (fun _ => 0)))] := by
      show [(a 0, _), (a 1, _), (a 2, _), (a 3, _), (a 4, _), (a 5, _)] = _
      rw [e0, e1, e2, e3, e4, e5]
      rfl
    rw [h9]; exact hD
  exact W.vret hx hb hr (fun t ht hW => ⟨⟨(a, cA0), rfl, e0, by rw [ht]; exact hP, va_K.moved hW.alike hK, hD⟩, hS.F ht⟩) hS.2.2 d_m_ctor_49
end
section
def lw_P (b : Addr) (xs : List Int32) (args : Array Value) (s : State) : Prop := args = #[.ref b] ∧ s.IntsAt b xs ∧ xs.length ≤ 2048 ∧ (Jvm.Cond.and given_1 narrow_1).before args s = true
def lw_Q (_ : Array Value) (s : State) (o : Outcome) (t : State) : Prop := o = .returned (some (.int 1)) ∧ Framed s o t [] 600000 7302250
def lw_Z (below : List Frame) (a : Array Value) (s : State) : State → Prop := fun t => ∃ o, t.status = .running ∧ Ended t below o ∧ lw_Q a s o t
/-- the law's own end, with 1 on the stack, nothing written that was there before, its room as the claim has it -/
theorem lw_ret {p : Program} {l : Launch} {e : Env} {s : State} {m : MethodId} {below : List Frame} {meth : Method} {c : Code} {b : Nat} (hx : p.tables.exec = Jvm.exec) (hb : c.code = code) (hr : meth.sig.returnType = ret) (hlocks : meth.locks = false) {pc : Nat} {H : Heap} {ls : Array Slot} (hdg : decode code pc = .ok (.ireturn, 1)) : W p l e room_1 s m #[Value.ref b] below meth c H [] 600000 7302250 (lw_Z below #[Value.ref b] s) (F0 m pc ls [.int 1]) := by
  intro T hT X
  obtain ⟨fs, hret, hrun, hended, hW, hframe⟩ := X.leave (v := some (.int 1)) (hlocks := hlocks) (fun h => by rw [hr] at h; cases h)
  have hmeth' : T.vm.method? m = some meth := X.method'
  refine ⟨T.setFrames fs, ?_, .returned (some (.int 1)), hrun, hended, rfl, ⟨_, rfl⟩, hW, hframe⟩
  jvm_step X.here [X.here.top, hx, hb, hdg, hmeth', hr, ret, narrow_b1]
  (try refine ⟨rfl, ?_⟩); (try refine ⟨rfl, ?_⟩)
  first | (intro acts; rw [hret _ acts rfl rfl rfl]) | rw [hret _ _ rfl rfl rfl]
  exact Steps.refl _
/-- what holds at the law's entry: the machine, the code, the tables' words (any of lw_tbl by 'hts w (by decide +kernel)'), the script of L ints xs at the cell b, what the Statement gives of the start (any of its parts by flat_of_before) -/
def lw_At (p : Program) (s : State) (m : MethodId) (meth : Method) (c : Code) (b L : Nat) (xs : Nat → Int32) : Prop :=
  p.tables.exec = Jvm.exec ∧ c.code = code ∧ meth.sig.returnType = ret ∧ c.maxLocals = 4 ∧ s.vm.findClass R_law = some m.cls ∧ (∀ w ∈ lw_tbl, w.before #[Value.ref b] s = true) ∧ va_X b L xs s s.heap ∧ b < s.heap.size ∧ meth.locks = false ∧ (Jvm.Cond.and given_1 narrow_1).before #[Value.ref b] s = true
end
section
theorem d_law_0 : decode code 0 = .ok (.new 7, 3) := by decide +kernel
theorem d_law_3 : decode code 3 = .ok (.dup, 1) := by decide +kernel
theorem d_law_4 : decode code 4 = .ok (.invokespecial 9, 3) := by decide +kernel
theorem d_law_7 : decode code 7 = .ok (.astore_n 1, 1) := by decide +kernel
theorem d_law_8 : decode code 8 = .ok (.new 10, 3) := by decide +kernel
theorem d_law_11 : decode code 11 = .ok (.dup, 1) := by decide +kernel
theorem d_law_12 : decode code 12 = .ok (.invokespecial 12, 3) := by decide +kernel
theorem d_law_15 : decode code 15 = .ok (.astore_n 2, 1) := by decide +kernel
theorem d_law_16 : decode code 16 = .ok (.iconst 0, 1) := by decide +kernel
theorem d_law_17 : decode code 17 = .ok (.istore_n 3, 1) := by decide +kernel
theorem d_law_18 : decode code 18 = .ok (.iload_n 3, 1) := by decide +kernel
theorem d_law_19 : decode code 19 = .ok (.aload_n 0, 1) := by decide +kernel
theorem d_law_20 : decode code 20 = .ok (.arraylength, 1) := by decide +kernel
theorem d_law_21 : decode code 21 = .ok (.iconst 4, 1) := by decide +kernel
theorem d_law_22 : decode code 22 = .ok (.isub, 1) := by decide +kernel
theorem d_law_23 : decode code 23 = .ok (.if_icmp .gt 356, 3) := by decide +kernel
theorem d_law_26 : decode code 26 = .ok (.aload_n 0, 1) := by decide +kernel
theorem d_law_27 : decode code 27 = .ok (.iload_n 3, 1) := by decide +kernel
theorem d_law_28 : decode code 28 = .ok (.iaload, 1) := by decide +kernel
theorem d_law_29 : decode code 29 = .ok (.bipush 15, 2) := by decide +kernel
theorem d_law_31 : decode code 31 = .ok (.iand, 1) := by decide +kernel
theorem d_law_32 : decode code 32 = .ok (.tableswitch 341 0 10 #[60, 71, 114, 147, 170, 193, 226, 259, 292, 305, 318], 60) := by decide +kernel
theorem d_law_92 : decode code 92 = .ok (.aload_n 1, 1) := by decide +kernel
theorem d_law_93 : decode code 93 = .ok (.invokevirtual 13, 3) := by decide +kernel
theorem d_law_96 : decode code 96 = .ok (.aload_n 2, 1) := by decide +kernel
theorem d_law_97 : decode code 97 = .ok (.invokevirtual 16, 3) := by decide +kernel
theorem d_law_100 : decode code 100 = .ok (.goto 273, 3) := by decide +kernel
theorem d_law_103 : decode code 103 = .ok (.aload_n 1, 1) := by decide +kernel
theorem d_law_104 : decode code 104 = .ok (.aload_n 0, 1) := by decide +kernel
theorem d_law_105 : decode code 105 = .ok (.iload_n 3, 1) := by decide +kernel
theorem d_law_106 : decode code 106 = .ok (.iconst 1, 1) := by decide +kernel
theorem d_law_107 : decode code 107 = .ok (.iadd, 1) := by decide +kernel
theorem d_law_108 : decode code 108 = .ok (.iaload, 1) := by decide +kernel
theorem d_law_109 : decode code 109 = .ok (.aload_n 0, 1) := by decide +kernel
theorem d_law_110 : decode code 110 = .ok (.iload_n 3, 1) := by decide +kernel
theorem d_law_111 : decode code 111 = .ok (.iconst 2, 1) := by decide +kernel
theorem d_law_112 : decode code 112 = .ok (.iadd, 1) := by decide +kernel
theorem d_law_113 : decode code 113 = .ok (.iaload, 1) := by decide +kernel
theorem d_law_114 : decode code 114 = .ok (.aload_n 0, 1) := by decide +kernel
theorem d_law_115 : decode code 115 = .ok (.iload_n 3, 1) := by decide +kernel
theorem d_law_116 : decode code 116 = .ok (.iconst 3, 1) := by decide +kernel
theorem d_law_117 : decode code 117 = .ok (.iadd, 1) := by decide +kernel
theorem d_law_118 : decode code 118 = .ok (.iaload, 1) := by decide +kernel
theorem d_law_119 : decode code 119 = .ok (.invokevirtual 17, 3) := by decide +kernel
theorem d_law_122 : decode code 122 = .ok (.aload_n 2, 1) := by decide +kernel
theorem d_law_123 : decode code 123 = .ok (.aload_n 0, 1) := by decide +kernel
theorem d_law_124 : decode code 124 = .ok (.iload_n 3, 1) := by decide +kernel
theorem d_law_125 : decode code 125 = .ok (.iconst 1, 1) := by decide +kernel
theorem d_law_126 : decode code 126 = .ok (.iadd, 1) := by decide +kernel
theorem d_law_127 : decode code 127 = .ok (.iaload, 1) := by decide +kernel
theorem d_law_128 : decode code 128 = .ok (.aload_n 0, 1) := by decide +kernel
theorem d_law_129 : decode code 129 = .ok (.iload_n 3, 1) := by decide +kernel
theorem d_law_130 : decode code 130 = .ok (.iconst 2, 1) := by decide +kernel
theorem d_law_131 : decode code 131 = .ok (.iadd, 1) := by decide +kernel
theorem d_law_132 : decode code 132 = .ok (.iaload, 1) := by decide +kernel
theorem d_law_133 : decode code 133 = .ok (.aload_n 0, 1) := by decide +kernel
theorem d_law_134 : decode code 134 = .ok (.iload_n 3, 1) := by decide +kernel
theorem d_law_135 : decode code 135 = .ok (.iconst 3, 1) := by decide +kernel
theorem d_law_136 : decode code 136 = .ok (.iadd, 1) := by decide +kernel
theorem d_law_137 : decode code 137 = .ok (.iaload, 1) := by decide +kernel
theorem d_law_138 : decode code 138 = .ok (.invokevirtual 21, 3) := by decide +kernel
theorem d_law_141 : decode code 141 = .ok (.if_icmp .eq 232, 3) := by decide +kernel
theorem d_law_144 : decode code 144 = .ok (.iconst 0, 1) := by decide +kernel
theorem d_law_145 : decode code 145 = .ok (.ireturn, 1) := by decide +kernel
theorem d_law_146 : decode code 146 = .ok (.aload_n 1, 1) := by decide +kernel
theorem d_law_147 : decode code 147 = .ok (.aload_n 0, 1) := by decide +kernel
theorem d_law_148 : decode code 148 = .ok (.iload_n 3, 1) := by decide +kernel
theorem d_law_149 : decode code 149 = .ok (.iconst 1, 1) := by decide +kernel
theorem d_law_150 : decode code 150 = .ok (.iadd, 1) := by decide +kernel
theorem d_law_151 : decode code 151 = .ok (.iaload, 1) := by decide +kernel
theorem d_law_152 : decode code 152 = .ok (.aload_n 0, 1) := by decide +kernel
theorem d_law_153 : decode code 153 = .ok (.iload_n 3, 1) := by decide +kernel
theorem d_law_154 : decode code 154 = .ok (.iconst 2, 1) := by decide +kernel
theorem d_law_155 : decode code 155 = .ok (.iadd, 1) := by decide +kernel
theorem d_law_156 : decode code 156 = .ok (.iaload, 1) := by decide +kernel
theorem d_law_157 : decode code 157 = .ok (.invokevirtual 22, 3) := by decide +kernel
theorem d_law_160 : decode code 160 = .ok (.aload_n 2, 1) := by decide +kernel
theorem d_law_161 : decode code 161 = .ok (.aload_n 0, 1) := by decide +kernel
theorem d_law_162 : decode code 162 = .ok (.iload_n 3, 1) := by decide +kernel
theorem d_law_163 : decode code 163 = .ok (.iconst 1, 1) := by decide +kernel
theorem d_law_164 : decode code 164 = .ok (.iadd, 1) := by decide +kernel
theorem d_law_165 : decode code 165 = .ok (.iaload, 1) := by decide +kernel
theorem d_law_166 : decode code 166 = .ok (.aload_n 0, 1) := by decide +kernel
theorem d_law_167 : decode code 167 = .ok (.iload_n 3, 1) := by decide +kernel
theorem d_law_168 : decode code 168 = .ok (.iconst 2, 1) := by decide +kernel
theorem d_law_169 : decode code 169 = .ok (.iadd, 1) := by decide +kernel
theorem d_law_170 : decode code 170 = .ok (.iaload, 1) := by decide +kernel
theorem d_law_171 : decode code 171 = .ok (.invokevirtual 26, 3) := by decide +kernel
theorem d_law_174 : decode code 174 = .ok (.if_icmp .eq 199, 3) := by decide +kernel
theorem d_law_177 : decode code 177 = .ok (.iconst 0, 1) := by decide +kernel
theorem d_law_178 : decode code 178 = .ok (.ireturn, 1) := by decide +kernel
theorem d_law_179 : decode code 179 = .ok (.aload_n 1, 1) := by decide +kernel
theorem d_law_180 : decode code 180 = .ok (.aload_n 0, 1) := by decide +kernel
theorem d_law_181 : decode code 181 = .ok (.iload_n 3, 1) := by decide +kernel
theorem d_law_182 : decode code 182 = .ok (.iconst 1, 1) := by decide +kernel
theorem d_law_183 : decode code 183 = .ok (.iadd, 1) := by decide +kernel
theorem d_law_184 : decode code 184 = .ok (.iaload, 1) := by decide +kernel
theorem d_law_185 : decode code 185 = .ok (.invokevirtual 27, 3) := by decide +kernel
theorem d_law_188 : decode code 188 = .ok (.aload_n 2, 1) := by decide +kernel
theorem d_law_189 : decode code 189 = .ok (.aload_n 0, 1) := by decide +kernel
theorem d_law_190 : decode code 190 = .ok (.iload_n 3, 1) := by decide +kernel
theorem d_law_191 : decode code 191 = .ok (.iconst 1, 1) := by decide +kernel
theorem d_law_192 : decode code 192 = .ok (.iadd, 1) := by decide +kernel
theorem d_law_193 : decode code 193 = .ok (.iaload, 1) := by decide +kernel
theorem d_law_194 : decode code 194 = .ok (.invokevirtual 31, 3) := by decide +kernel
theorem d_law_197 : decode code 197 = .ok (.if_icmp .eq 176, 3) := by decide +kernel
theorem d_law_200 : decode code 200 = .ok (.iconst 0, 1) := by decide +kernel
theorem d_law_201 : decode code 201 = .ok (.ireturn, 1) := by decide +kernel
theorem d_law_202 : decode code 202 = .ok (.aload_n 1, 1) := by decide +kernel
theorem d_law_203 : decode code 203 = .ok (.aload_n 0, 1) := by decide +kernel
theorem d_law_204 : decode code 204 = .ok (.iload_n 3, 1) := by decide +kernel
theorem d_law_205 : decode code 205 = .ok (.iconst 1, 1) := by decide +kernel
theorem d_law_206 : decode code 206 = .ok (.iadd, 1) := by decide +kernel
theorem d_law_207 : decode code 207 = .ok (.iaload, 1) := by decide +kernel
theorem d_law_208 : decode code 208 = .ok (.invokevirtual 32, 3) := by decide +kernel
theorem d_law_211 : decode code 211 = .ok (.aload_n 2, 1) := by decide +kernel
theorem d_law_212 : decode code 212 = .ok (.aload_n 0, 1) := by decide +kernel
theorem d_law_213 : decode code 213 = .ok (.iload_n 3, 1) := by decide +kernel
theorem d_law_214 : decode code 214 = .ok (.iconst 1, 1) := by decide +kernel
theorem d_law_215 : decode code 215 = .ok (.iadd, 1) := by decide +kernel
theorem d_law_216 : decode code 216 = .ok (.iaload, 1) := by decide +kernel
theorem d_law_217 : decode code 217 = .ok (.invokevirtual 35, 3) := by decide +kernel
theorem d_law_220 : decode code 220 = .ok (.if_icmp .eq 153, 3) := by decide +kernel
theorem d_law_223 : decode code 223 = .ok (.iconst 0, 1) := by decide +kernel
theorem d_law_224 : decode code 224 = .ok (.ireturn, 1) := by decide +kernel
theorem d_law_225 : decode code 225 = .ok (.aload_n 1, 1) := by decide +kernel
theorem d_law_226 : decode code 226 = .ok (.aload_n 0, 1) := by decide +kernel
theorem d_law_227 : decode code 227 = .ok (.iload_n 3, 1) := by decide +kernel
theorem d_law_228 : decode code 228 = .ok (.iconst 1, 1) := by decide +kernel
theorem d_law_229 : decode code 229 = .ok (.iadd, 1) := by decide +kernel
theorem d_law_230 : decode code 230 = .ok (.iaload, 1) := by decide +kernel
theorem d_law_231 : decode code 231 = .ok (.aload_n 0, 1) := by decide +kernel
theorem d_law_232 : decode code 232 = .ok (.iload_n 3, 1) := by decide +kernel
theorem d_law_233 : decode code 233 = .ok (.iconst 2, 1) := by decide +kernel
theorem d_law_234 : decode code 234 = .ok (.iadd, 1) := by decide +kernel
theorem d_law_235 : decode code 235 = .ok (.iaload, 1) := by decide +kernel
theorem d_law_236 : decode code 236 = .ok (.invokevirtual 36, 3) := by decide +kernel
theorem d_law_239 : decode code 239 = .ok (.aload_n 2, 1) := by decide +kernel
theorem d_law_240 : decode code 240 = .ok (.aload_n 0, 1) := by decide +kernel
theorem d_law_241 : decode code 241 = .ok (.iload_n 3, 1) := by decide +kernel
theorem d_law_242 : decode code 242 = .ok (.iconst 1, 1) := by decide +kernel
theorem d_law_243 : decode code 243 = .ok (.iadd, 1) := by decide +kernel
theorem d_law_244 : decode code 244 = .ok (.iaload, 1) := by decide +kernel
theorem d_law_245 : decode code 245 = .ok (.aload_n 0, 1) := by decide +kernel
theorem d_law_246 : decode code 246 = .ok (.iload_n 3, 1) := by decide +kernel
theorem d_law_247 : decode code 247 = .ok (.iconst 2, 1) := by decide +kernel
theorem d_law_248 : decode code 248 = .ok (.iadd, 1) := by decide +kernel
theorem d_law_249 : decode code 249 = .ok (.iaload, 1) := by decide +kernel
theorem d_law_250 : decode code 250 = .ok (.invokevirtual 40, 3) := by decide +kernel
theorem d_law_253 : decode code 253 = .ok (.if_icmp .eq 120, 3) := by decide +kernel
theorem d_law_256 : decode code 256 = .ok (.iconst 0, 1) := by decide +kernel
theorem d_law_257 : decode code 257 = .ok (.ireturn, 1) := by decide +kernel
theorem d_law_258 : decode code 258 = .ok (.aload_n 1, 1) := by decide +kernel
theorem d_law_259 : decode code 259 = .ok (.aload_n 0, 1) := by decide +kernel
theorem d_law_260 : decode code 260 = .ok (.iload_n 3, 1) := by decide +kernel
theorem d_law_261 : decode code 261 = .ok (.iconst 1, 1) := by decide +kernel
theorem d_law_262 : decode code 262 = .ok (.iadd, 1) := by decide +kernel
theorem d_law_263 : decode code 263 = .ok (.iaload, 1) := by decide +kernel
theorem d_law_264 : decode code 264 = .ok (.aload_n 0, 1) := by decide +kernel
theorem d_law_265 : decode code 265 = .ok (.iload_n 3, 1) := by decide +kernel
theorem d_law_266 : decode code 266 = .ok (.iconst 2, 1) := by decide +kernel
theorem d_law_267 : decode code 267 = .ok (.iadd, 1) := by decide +kernel
theorem d_law_268 : decode code 268 = .ok (.iaload, 1) := by decide +kernel
theorem d_law_269 : decode code 269 = .ok (.invokevirtual 41, 3) := by decide +kernel
theorem d_law_272 : decode code 272 = .ok (.aload_n 2, 1) := by decide +kernel
theorem d_law_273 : decode code 273 = .ok (.aload_n 0, 1) := by decide +kernel
theorem d_law_274 : decode code 274 = .ok (.iload_n 3, 1) := by decide +kernel
theorem d_law_275 : decode code 275 = .ok (.iconst 1, 1) := by decide +kernel
theorem d_law_276 : decode code 276 = .ok (.iadd, 1) := by decide +kernel
theorem d_law_277 : decode code 277 = .ok (.iaload, 1) := by decide +kernel
theorem d_law_278 : decode code 278 = .ok (.aload_n 0, 1) := by decide +kernel
theorem d_law_279 : decode code 279 = .ok (.iload_n 3, 1) := by decide +kernel
theorem d_law_280 : decode code 280 = .ok (.iconst 2, 1) := by decide +kernel
theorem d_law_281 : decode code 281 = .ok (.iadd, 1) := by decide +kernel
theorem d_law_282 : decode code 282 = .ok (.iaload, 1) := by decide +kernel
theorem d_law_283 : decode code 283 = .ok (.invokevirtual 44, 3) := by decide +kernel
theorem d_law_286 : decode code 286 = .ok (.if_icmp .eq 87, 3) := by decide +kernel
theorem d_law_289 : decode code 289 = .ok (.iconst 0, 1) := by decide +kernel
theorem d_law_290 : decode code 290 = .ok (.ireturn, 1) := by decide +kernel
theorem d_law_291 : decode code 291 = .ok (.aload_n 1, 1) := by decide +kernel
theorem d_law_292 : decode code 292 = .ok (.aload_n 0, 1) := by decide +kernel
theorem d_law_293 : decode code 293 = .ok (.iload_n 3, 1) := by decide +kernel
theorem d_law_294 : decode code 294 = .ok (.iconst 1, 1) := by decide +kernel
theorem d_law_295 : decode code 295 = .ok (.iadd, 1) := by decide +kernel
theorem d_law_296 : decode code 296 = .ok (.iaload, 1) := by decide +kernel
theorem d_law_297 : decode code 297 = .ok (.aload_n 0, 1) := by decide +kernel
theorem d_law_298 : decode code 298 = .ok (.iload_n 3, 1) := by decide +kernel
theorem d_law_299 : decode code 299 = .ok (.iconst 2, 1) := by decide +kernel
theorem d_law_300 : decode code 300 = .ok (.iadd, 1) := by decide +kernel
theorem d_law_301 : decode code 301 = .ok (.iaload, 1) := by decide +kernel
theorem d_law_302 : decode code 302 = .ok (.invokevirtual 45, 3) := by decide +kernel
theorem d_law_305 : decode code 305 = .ok (.aload_n 2, 1) := by decide +kernel
theorem d_law_306 : decode code 306 = .ok (.aload_n 0, 1) := by decide +kernel
theorem d_law_307 : decode code 307 = .ok (.iload_n 3, 1) := by decide +kernel
theorem d_law_308 : decode code 308 = .ok (.iconst 1, 1) := by decide +kernel
theorem d_law_309 : decode code 309 = .ok (.iadd, 1) := by decide +kernel
theorem d_law_310 : decode code 310 = .ok (.iaload, 1) := by decide +kernel
theorem d_law_311 : decode code 311 = .ok (.aload_n 0, 1) := by decide +kernel
theorem d_law_312 : decode code 312 = .ok (.iload_n 3, 1) := by decide +kernel
theorem d_law_313 : decode code 313 = .ok (.iconst 2, 1) := by decide +kernel
theorem d_law_314 : decode code 314 = .ok (.iadd, 1) := by decide +kernel
theorem d_law_315 : decode code 315 = .ok (.iaload, 1) := by decide +kernel
theorem d_law_316 : decode code 316 = .ok (.invokevirtual 48, 3) := by decide +kernel
theorem d_law_319 : decode code 319 = .ok (.if_icmp .eq 54, 3) := by decide +kernel
theorem d_law_322 : decode code 322 = .ok (.iconst 0, 1) := by decide +kernel
theorem d_law_323 : decode code 323 = .ok (.ireturn, 1) := by decide +kernel
theorem d_law_324 : decode code 324 = .ok (.aload_n 1, 1) := by decide +kernel
theorem d_law_325 : decode code 325 = .ok (.invokevirtual 49, 3) := by decide +kernel
theorem d_law_328 : decode code 328 = .ok (.aload_n 2, 1) := by decide +kernel
theorem d_law_329 : decode code 329 = .ok (.invokevirtual 53, 3) := by decide +kernel
theorem d_law_332 : decode code 332 = .ok (.if_icmp .eq 41, 3) := by decide +kernel
theorem d_law_335 : decode code 335 = .ok (.iconst 0, 1) := by decide +kernel
theorem d_law_336 : decode code 336 = .ok (.ireturn, 1) := by decide +kernel
theorem d_law_337 : decode code 337 = .ok (.aload_n 1, 1) := by decide +kernel
theorem d_law_338 : decode code 338 = .ok (.invokevirtual 54, 3) := by decide +kernel
theorem d_law_341 : decode code 341 = .ok (.aload_n 2, 1) := by decide +kernel
theorem d_law_342 : decode code 342 = .ok (.invokevirtual 57, 3) := by decide +kernel
theorem d_law_345 : decode code 345 = .ok (.if_icmp .eq 28, 3) := by decide +kernel
theorem d_law_348 : decode code 348 = .ok (.iconst 0, 1) := by decide +kernel
theorem d_law_349 : decode code 349 = .ok (.ireturn, 1) := by decide +kernel
theorem d_law_350 : decode code 350 = .ok (.aload_n 1, 1) := by decide +kernel
theorem d_law_351 : decode code 351 = .ok (.aload_n 0, 1) := by decide +kernel
theorem d_law_352 : decode code 352 = .ok (.iload_n 3, 1) := by decide +kernel
theorem d_law_353 : decode code 353 = .ok (.iconst 1, 1) := by decide +kernel
theorem d_law_354 : decode code 354 = .ok (.iadd, 1) := by decide +kernel
theorem d_law_355 : decode code 355 = .ok (.iaload, 1) := by decide +kernel
theorem d_law_356 : decode code 356 = .ok (.invokevirtual 58, 3) := by decide +kernel
theorem d_law_359 : decode code 359 = .ok (.aload_n 2, 1) := by decide +kernel
theorem d_law_360 : decode code 360 = .ok (.aload_n 0, 1) := by decide +kernel
theorem d_law_361 : decode code 361 = .ok (.iload_n 3, 1) := by decide +kernel
theorem d_law_362 : decode code 362 = .ok (.iconst 1, 1) := by decide +kernel
theorem d_law_363 : decode code 363 = .ok (.iadd, 1) := by decide +kernel
theorem d_law_364 : decode code 364 = .ok (.iaload, 1) := by decide +kernel
theorem d_law_365 : decode code 365 = .ok (.invokevirtual 61, 3) := by decide +kernel
theorem d_law_368 : decode code 368 = .ok (.if_icmp .eq 5, 3) := by decide +kernel
theorem d_law_371 : decode code 371 = .ok (.iconst 0, 1) := by decide +kernel
theorem d_law_372 : decode code 372 = .ok (.ireturn, 1) := by decide +kernel
theorem d_law_373 : decode code 373 = .ok (.iinc 3 4, 3) := by decide +kernel
theorem d_law_376 : decode code 376 = .ok (.goto (-358), 3) := by decide +kernel
theorem d_law_379 : decode code 379 = .ok (.iconst 1, 1) := by decide +kernel
theorem d_law_380 : decode code 380 = .ok (.ireturn, 1) := by decide +kernel
def L_law (xs : Nat → Int32) (L : Nat) : Nat → TS → MS → Int32 → Option Int32
  | 0, _, _, _ => none
  | k + 1, S, M, i => if ((nI L) - 4) < i then some 1 else gd (okb i L) (if ((xs (cl i)) &&& 15) = 0 then (j_t_init S).bind (fun T4 => (j_m_init M).bind (fun M6 => L_law xs L k T4 M6 (i + 4))) else if ((xs (cl i)) &&& 15) = 1 then gd (okb (i + 1) L) (gd (okb (i + 2) L) (gd (okb (i + 3) L) ((j_t_insert S (xs (cl (i + 1))) (xs (cl (i + 2))) (xs (cl (i + 3)))).bind (fun q13 => (j_m_insert M (xs (cl (i + 1))) (xs (cl (i + 2))) (xs (cl (i + 3)))).bind (fun q17 => if q13.1 = q17.1 then L_law xs L k q13.2 q17.2 (i + 4) else some 0))))) else if ((xs (cl i)) &&& 15) = 2 then gd (okb (i + 1) L) (gd (okb (i + 2) L) ((j_t_remove S (xs (cl (i + 1))) (xs (cl (i + 2)))).bind (fun q24 => (j_m_remove M (xs (cl (i + 1))) (xs (cl (i + 2)))).bind (fun q28 => if q24.1 = q28.1 then L_law xs L k q24.2 q28.2 (i + 4) else some 0)))) else if ((xs (cl i)) &&& 15) = 3 then gd (okb (i + 1) L) ((j_t_lookup S (xs (cl (i + 1)))).bind (fun v32 => (j_m_lookup M (xs (cl (i + 1)))).bind (fun q36 => if v32 = q36.1 then L_law xs L k S q36.2 (i + 4) else some 0))) else if ((xs (cl i)) &&& 15) = 4 then gd (okb (i + 1) L) ((j_t_lookupLen S (xs (cl (i + 1)))).bind (fun v40 => (j_m_lookupLen M (xs (cl (i + 1)))).bind (fun q44 => if v40 = q44.1 then L_law xs L k S q44.2 (i + 4) else some 0))) else if ((xs (cl i)) &&& 15) = 5 then gd (okb (i + 1) L) (gd (okb (i + 2) L) ((j_t_exact S (xs (cl (i + 1))) (xs (cl (i + 2)))).bind (fun v49 => (j_m_exact M (xs (cl (i + 1))) (xs (cl (i + 2)))).bind (fun q53 => if v49 = q53.1 then L_law xs L k S q53.2 (i + 4) else some 0)))) else if ((xs (cl i)) &&& 15) = 6 then gd (okb (i + 1) L) (gd (okb (i + 2) L) ((j_t_under S (xs (cl (i + 1))) (xs (cl (i + 2)))).bind (fun v58 => (j_m_under M (xs (cl (i + 1))) (xs (cl (i + 2)))).bind (fun q62 => if v58 = q62.1 then L_law xs L k S q62.2 (i + 4) else some 0)))) else if ((xs (cl i)) &&& 15) = 7 then gd (okb (i + 1) L) (gd (okb (i + 2) L) ((j_t_route S (xs (cl (i + 1))) (xs (cl (i + 2)))).bind (fun v67 => (j_m_route M (xs (cl (i + 1))) (xs (cl (i + 2)))).bind (fun q71 => if v67 = q71.1 then L_law xs L k S q71.2 (i + 4) else some 0)))) else if ((xs (cl i)) &&& 15) = 8 then (j_t_count S).bind (fun v74 => (j_m_count M).bind (fun q78 => if v74 = q78.1 then L_law xs L k S q78.2 (i + 4) else some 0)) else if ((xs (cl i)) &&& 15) = 9 then (j_t_nodes S).bind (fun v81 => (j_m_nodes M).bind (fun q85 => if v81 = q85.1 then L_law xs L k S q85.2 (i + 4) else some 0)) else if ((xs (cl i)) &&& 15) = 10 then gd (okb (i + 1) L) ((j_t_depth S (xs (cl (i + 1)))).bind (fun v89 => (j_m_depth M (xs (cl (i + 1)))).bind (fun q93 => if v89 = q93.1 then L_law xs L k S q93.2 (i + 4) else some 0))) else L_law xs L k S M (i + 4))
theorem keepM {D : va_G} {a a2 : Nat → Nat} {cA : ClassId} {M : MS} {H H1 : Heap} (hap : ∀ i j, i < 7 → j < 6 → a i ≠ a2 j) (hP : va_P D classes (wM a2 cA M) H) (hk : ∀ q : Nat, q < H.size → ¬ aT a q → H1[q]? = H[q]?) : va_P D classes (wM a2 cA M) H1 := by
  refine hP.kept (fun k q hq => ?_)
  refine hk q.1 (hP k q hq).lt ?_
  rintro ⟨i, hi, e⟩
  match k, hq with
  | 0, hq => cases hq; exact hap i 0 hi (by decide) e.symm
  | 1, hq => cases hq; exact hap i 1 hi (by decide) e.symm
  | 2, hq => cases hq; exact hap i 2 hi (by decide) e.symm
  | 3, hq => cases hq; exact hap i 3 hi (by decide) e.symm
  | 4, hq => cases hq; exact hap i 4 hi (by decide) e.symm
  | 5, hq => cases hq; exact hap i 5 hi (by decide) e.symm
  | k + 6, hq => cases hq
theorem keepT {D : va_G} {a a2 : Nat → Nat} {cA : ClassId} {S : TS} {H H1 : Heap} (hap : ∀ i j, i < 7 → j < 6 → a i ≠ a2 j) (hP : va_P D classes (wT a cA S) H) (hk : ∀ q : Nat, q < H.size → ¬ aM a2 q → H1[q]? = H[q]?) : va_P D classes (wT a cA S) H1 := by
  refine hP.kept (fun k q hq => ?_)
  refine hk q.1 (hP k q hq).lt ?_
  rintro ⟨i, hi, e⟩
  match k, hq with
  | 0, hq => cases hq; exact hap 0 i (by decide) hi e
  | 1, hq => cases hq; exact hap 1 i (by decide) hi e
  | 2, hq => cases hq; exact hap 2 i (by decide) hi e
  | 3, hq => cases hq; exact hap 3 i (by decide) hi e
  | 4, hq => cases hq; exact hap 4 i (by decide) hi e
  | 5, hq => cases hq; exact hap 5 i (by decide) hi e
  | 6, hq => cases hq; exact hap 6 i (by decide) hi e
  | k + 7, hq => cases hq
set_option maxHeartbeats 4000000 in
set_option maxRecDepth 100000 in
theorem law_loop {p : Program} {l : Launch} {e : Env} {s : State} {m : MethodId} {below : List Frame} {meth : Method} {c : Code} {D : va_G} {cA : ClassId} {a a2 : Nat → Nat} {b L : Nat} {xs : Nat → Int32} (C0 : lw_At p s m meth c b L xs) (hK : va_K D classes [(cA, .int)] s) (hDT : ∀ S : TS, va_D (fun q : Nat => s.heap.size ≤ q) (wT a cA S)) (hDM : ∀ M : MS, va_D (fun q : Nat => s.heap.size ≤ q) (wM a2 cA M)) (hap : ∀ i j, i < 7 → j < 6 → a i ≠ a2 j) :
    ∀ (k : Nat) (S : TS) (M : MS) (i : Int32), L_law xs L k S M i = some 1 → ∀ (H : Heap) (locs : List Loc), va_P D classes (wT a cA S) H → va_P D classes (wM a2 cA M) H → va_S (fun q : Nat => s.heap.size ≤ q) s.heap H locs → ∀ ls : Array Slot, lv_has ls 4 [(0, .ref b), (1, .ref (a 0)), (2, .ref (a2 0)), (3, .int i)] → W p l e room_1 s m #[Value.ref b] below meth c H locs 13 9522 (lw_Z below #[Value.ref b] s) (F0 m 18 ls []) := by
  obtain ⟨hx, hb, hr, hml, hown, hts, hX, hbl, hlocks, hgv⟩ := C0
  have hbA : ¬ (fun q : Nat => s.heap.size ≤ q) b := Nat.not_le.mpr hbl
  have E : CallFix p m c code 4 s #[Value.ref b] gT R_law := ⟨hx, hb, hml, hown, fun w hw => hts w (List.mem_filter.mp hw).1⟩
  intro k
  induction k with
  | zero =>
    intro S M i h
    cases h
  | succ k ih =>
    intro S M i h H locs hPT hPM hS ls hl
    rw [L_law] at h
    refine lv_iload_n hx hb d_law_18 rfl (lv_at hl 3 rfl) ?_
    refine lv_aload_n hx hb d_law_19 rfl (lv_at hl 0 rfl) ?_
    refine va_slen hx hb hX hbl hbA hS d_law_20 ?_
    refine lv_topi (nm_r (show Int32.ofNat L = nI L from rfl) ?_)
    refine lv_iconst (v := 4) hx hb d_law_21 (by decide) ?_
    refine lv_isub hx hb d_law_22 ?_
    refine lv_icmp_gt (tgt := 379) hx hb d_law_23 (by decide) (fun c1 => ?_) (fun c1 => ?_)
    · rw [if_pos c1] at h
      refine lv_iconst (v := 1) hx hb d_law_379 (by decide) ?_
      clear h
      refine va_forget (fun q hq => hS.2.2 q hq) ?_
      refine W.widen (k := 600000) (n := 7302250) (Nat.le_of_ble_eq_true rfl) (Nat.le_of_ble_eq_true rfl) ?_
      exact lw_ret hx hb hr hlocks d_law_380
    · rw [if_neg c1] at h
      refine lv_aload_n hx hb d_law_26 rfl (lv_at hl 0 rfl) ?_
      refine lv_iload_n hx hb d_law_27 rfl (lv_at hl 3 rfl) ?_
      obtain ⟨g2, h⟩ := gd_some h
      refine va_sld hx hb hX hbl hbA hS (okb_in g2) d_law_28 ?_
      refine lv_bipush (v := 15) hx hb d_law_29 (by decide) ?_
      refine lv_iand hx hb d_law_31 ?_
      obtain ⟨w0, ew0⟩ : ∃ w : Int32, w = (xs (cl i)) &&& 15 := ⟨_, rfl⟩
      rw [← ew0] at h ⊢
      by_cases s0 : w0 = 0
      · rw [if_pos s0] at h
        rw [s0]
        refine lv_tableIn (off := 60) (tgt := 92) hx hb d_law_32 (by decide) (by decide) (by decide) (by decide) ?_
        refine lv_aload_n hx hb d_law_92 rfl (lv_at hl 1 rfl) ?_
        obtain ⟨T4, e3, h⟩ := Option.bind_eq_some_iff.mp h
        refine T_callM (As := []) (rest := []) (v := none) (S' := T4) E hK hDT hPT hS (c_t_init l D a cA S  T4 e3) k_t_init lk_law_13 ⟨by decide +kernel, by decide +kernel⟩ rfl hl.1 rfl (Nat.le_of_ble_eq_true rfl) d_law_93 ⟨by decide +kernel, by decide +kernel⟩ (fun H1 locs hPT hS hk1 hz1 => ?_)
        have hPM := keepM hap hPM hk1
        clear hk1 hz1
        generalize H1 = H at hPT hPM hS ⊢
        refine W.eq (g2 := F0 m 96 ls []) rfl ?_
        refine lv_aload_n hx hb d_law_96 rfl (lv_at hl 2 rfl) ?_
        obtain ⟨M6, e5, h⟩ := Option.bind_eq_some_iff.mp h
        refine M_callM (As := []) (rest := []) (v := none) (S' := M6) E hK hDM hPM hS (c_m_init l D a2 cA M  M6 e5) k_m_init lk_law_16 ⟨by decide +kernel, by decide +kernel⟩ rfl hl.1 rfl (Nat.le_of_ble_eq_true rfl) d_law_97 ⟨by decide +kernel, by decide +kernel⟩ (fun H1 locs hPM hS hk1 hz1 => ?_)
        have hPT := keepT hap hPT hk1
        clear hk1 hz1
        generalize H1 = H at hPT hPM hS ⊢
        refine W.eq (g2 := F0 m 100 ls []) rfl ?_
        refine lv_goto (tgt := 373) hx hb d_law_100 (by decide) ?_
        refine lv_iinc (v := i + 4) (lv' := [(3, .int (i + 4)), (0, .ref b), (1, .ref (a 0)), (2, .ref (a2 0))]) hx hb d_law_373 hl (k := 3) rfl rfl (by decide) rfl (fun ls hl => ?_)
        refine lv_goto (tgt := 18) hx hb d_law_376 (by decide) ?_
        exact ih T4 M6 (i + 4) h _ _ hPT hPM hS ls (lv_sub hl [1, 2, 3, 0] rfl)
      rw [if_neg s0] at h
      by_cases s1 : w0 = 1
      · rw [if_pos s1] at h
        rw [s1]
        refine lv_tableIn (off := 71) (tgt := 103) hx hb d_law_32 (by decide) (by decide) (by decide) (by decide) ?_
        refine lv_aload_n hx hb d_law_103 rfl (lv_at hl 1 rfl) ?_
        refine lv_aload_n hx hb d_law_104 rfl (lv_at hl 0 rfl) ?_
        refine lv_iload_n hx hb d_law_105 rfl (lv_at hl 3 rfl) ?_
        refine lv_iconst (v := 1) hx hb d_law_106 (by decide) ?_
        refine lv_iadd hx hb d_law_107 ?_
        obtain ⟨g7, h⟩ := gd_some h
        refine va_sld hx hb hX hbl hbA hS (okb_in g7) d_law_108 ?_
        refine lv_aload_n hx hb d_law_109 rfl (lv_at hl 0 rfl) ?_
        refine lv_iload_n hx hb d_law_110 rfl (lv_at hl 3 rfl) ?_
        refine lv_iconst (v := 2) hx hb d_law_111 (by decide) ?_
        refine lv_iadd hx hb d_law_112 ?_
        obtain ⟨g8, h⟩ := gd_some h
        refine va_sld hx hb hX hbl hbA hS (okb_in g8) d_law_113 ?_
        refine lv_aload_n hx hb d_law_114 rfl (lv_at hl 0 rfl) ?_
        refine lv_iload_n hx hb d_law_115 rfl (lv_at hl 3 rfl) ?_
        refine lv_iconst (v := 3) hx hb d_law_116 (by decide) ?_
        refine lv_iadd hx hb d_law_117 ?_
        obtain ⟨g9, h⟩ := gd_some h
        refine va_sld hx hb hX hbl hbA hS (okb_in g9) d_law_118 ?_
        obtain ⟨⟨v12, T11⟩, e10, h⟩ := Option.bind_eq_some_iff.mp h
        try dsimp only at h
        refine T_callM (As := [.int (xs (cl (i + 1))), .int (xs (cl (i + 2))), .int (xs (cl (i + 3)))]) (rest := []) (v := some (.int v12)) (S' := T11) E hK hDT hPT hS (c_t_insert l D a cA S (xs (cl (i + 1))) (xs (cl (i + 2))) (xs (cl (i + 3))) v12 T11 e10) k_t_insert lk_law_17 ⟨by decide +kernel, by decide +kernel⟩ rfl hl.1 rfl (Nat.le_of_ble_eq_true rfl) d_law_119 ⟨by decide +kernel, by decide +kernel⟩ (fun H1 locs hPT hS hk1 hz1 => ?_)
        have hPM := keepM hap hPM hk1
        clear hk1 hz1
        generalize H1 = H at hPT hPM hS ⊢
        refine W.eq (g2 := F0 m 122 ls [.int v12]) rfl ?_
        refine lv_aload_n hx hb d_law_122 rfl (lv_at hl 2 rfl) ?_
        refine lv_aload_n hx hb d_law_123 rfl (lv_at hl 0 rfl) ?_
        refine lv_iload_n hx hb d_law_124 rfl (lv_at hl 3 rfl) ?_
        refine lv_iconst (v := 1) hx hb d_law_125 (by decide) ?_
        refine lv_iadd hx hb d_law_126 ?_
        refine va_sld hx hb hX hbl hbA hS (okb_in g7) d_law_127 ?_
        refine lv_aload_n hx hb d_law_128 rfl (lv_at hl 0 rfl) ?_
        refine lv_iload_n hx hb d_law_129 rfl (lv_at hl 3 rfl) ?_
        refine lv_iconst (v := 2) hx hb d_law_130 (by decide) ?_
        refine lv_iadd hx hb d_law_131 ?_
        refine va_sld hx hb hX hbl hbA hS (okb_in g8) d_law_132 ?_
        refine lv_aload_n hx hb d_law_133 rfl (lv_at hl 0 rfl) ?_
        refine lv_iload_n hx hb d_law_134 rfl (lv_at hl 3 rfl) ?_
        refine lv_iconst (v := 3) hx hb d_law_135 (by decide) ?_
        refine lv_iadd hx hb d_law_136 ?_
        refine va_sld hx hb hX hbl hbA hS (okb_in g9) d_law_137 ?_
        obtain ⟨⟨v16, M15⟩, e14, h⟩ := Option.bind_eq_some_iff.mp h
        try dsimp only at h
        refine M_callM (As := [.int (xs (cl (i + 1))), .int (xs (cl (i + 2))), .int (xs (cl (i + 3)))]) (rest := [.int v12]) (v := some (.int v16)) (S' := M15) E hK hDM hPM hS (c_m_insert l D a2 cA M (xs (cl (i + 1))) (xs (cl (i + 2))) (xs (cl (i + 3))) v16 M15 e14) k_m_insert lk_law_21 ⟨by decide +kernel, by decide +kernel⟩ rfl hl.1 rfl (Nat.le_of_ble_eq_true rfl) d_law_138 ⟨by decide +kernel, by decide +kernel⟩ (fun H1 locs hPM hS hk1 hz1 => ?_)
        have hPT := keepT hap hPT hk1
        clear hk1 hz1
        generalize H1 = H at hPT hPM hS ⊢
        refine W.eq (g2 := F0 m 141 ls [.int v16, .int v12]) rfl ?_
        refine lv_icmp_eq (tgt := 373) hx hb d_law_141 (by decide) (fun c18 => ?_) (fun c18 => ?_)
        · rw [if_pos c18] at h
          refine lv_iinc (v := i + 4) (lv' := [(3, .int (i + 4)), (0, .ref b), (1, .ref (a 0)), (2, .ref (a2 0))]) hx hb d_law_373 hl (k := 3) rfl rfl (by decide) rfl (fun ls hl => ?_)
          refine lv_goto (tgt := 18) hx hb d_law_376 (by decide) ?_
          exact ih T11 M15 (i + 4) h _ _ hPT hPM hS ls (lv_sub hl [1, 2, 3, 0] rfl)
        · rw [if_neg c18] at h
          refine lv_iconst (v := 0) hx hb d_law_144 (by decide) ?_
          exact absurd (Option.some.inj h) (by decide)
      rw [if_neg s1] at h
      by_cases s2 : w0 = 2
      · rw [if_pos s2] at h
        rw [s2]
        refine lv_tableIn (off := 114) (tgt := 146) hx hb d_law_32 (by decide) (by decide) (by decide) (by decide) ?_
        refine lv_aload_n hx hb d_law_146 rfl (lv_at hl 1 rfl) ?_
        refine lv_aload_n hx hb d_law_147 rfl (lv_at hl 0 rfl) ?_
        refine lv_iload_n hx hb d_law_148 rfl (lv_at hl 3 rfl) ?_
        refine lv_iconst (v := 1) hx hb d_law_149 (by decide) ?_
        refine lv_iadd hx hb d_law_150 ?_
        obtain ⟨g19, h⟩ := gd_some h
        refine va_sld hx hb hX hbl hbA hS (okb_in g19) d_law_151 ?_
        refine lv_aload_n hx hb d_law_152 rfl (lv_at hl 0 rfl) ?_
        refine lv_iload_n hx hb d_law_153 rfl (lv_at hl 3 rfl) ?_
        refine lv_iconst (v := 2) hx hb d_law_154 (by decide) ?_
        refine lv_iadd hx hb d_law_155 ?_
        obtain ⟨g20, h⟩ := gd_some h
        refine va_sld hx hb hX hbl hbA hS (okb_in g20) d_law_156 ?_
        obtain ⟨⟨v23, T22⟩, e21, h⟩ := Option.bind_eq_some_iff.mp h
        try dsimp only at h
        refine T_callM (As := [.int (xs (cl (i + 1))), .int (xs (cl (i + 2)))]) (rest := []) (v := some (.int v23)) (S' := T22) E hK hDT hPT hS (c_t_remove l D a cA S (xs (cl (i + 1))) (xs (cl (i + 2))) v23 T22 e21) k_t_remove lk_law_22 ⟨by decide +kernel, by decide +kernel⟩ rfl hl.1 rfl (Nat.le_of_ble_eq_true rfl) d_law_157 ⟨by decide +kernel, by decide +kernel⟩ (fun H1 locs hPT hS hk1 hz1 => ?_)
        have hPM := keepM hap hPM hk1
        clear hk1 hz1
        generalize H1 = H at hPT hPM hS ⊢
        refine W.eq (g2 := F0 m 160 ls [.int v23]) rfl ?_
        refine lv_aload_n hx hb d_law_160 rfl (lv_at hl 2 rfl) ?_
        refine lv_aload_n hx hb d_law_161 rfl (lv_at hl 0 rfl) ?_
        refine lv_iload_n hx hb d_law_162 rfl (lv_at hl 3 rfl) ?_
        refine lv_iconst (v := 1) hx hb d_law_163 (by decide) ?_
        refine lv_iadd hx hb d_law_164 ?_
        refine va_sld hx hb hX hbl hbA hS (okb_in g19) d_law_165 ?_
        refine lv_aload_n hx hb d_law_166 rfl (lv_at hl 0 rfl) ?_
        refine lv_iload_n hx hb d_law_167 rfl (lv_at hl 3 rfl) ?_
        refine lv_iconst (v := 2) hx hb d_law_168 (by decide) ?_
        refine lv_iadd hx hb d_law_169 ?_
        refine va_sld hx hb hX hbl hbA hS (okb_in g20) d_law_170 ?_
        obtain ⟨⟨v27, M26⟩, e25, h⟩ := Option.bind_eq_some_iff.mp h
        try dsimp only at h
        refine M_callM (As := [.int (xs (cl (i + 1))), .int (xs (cl (i + 2)))]) (rest := [.int v23]) (v := some (.int v27)) (S' := M26) E hK hDM hPM hS (c_m_remove l D a2 cA M (xs (cl (i + 1))) (xs (cl (i + 2))) v27 M26 e25) k_m_remove lk_law_26 ⟨by decide +kernel, by decide +kernel⟩ rfl hl.1 rfl (Nat.le_of_ble_eq_true rfl) d_law_171 ⟨by decide +kernel, by decide +kernel⟩ (fun H1 locs hPM hS hk1 hz1 => ?_)
        have hPT := keepT hap hPT hk1
        clear hk1 hz1
        generalize H1 = H at hPT hPM hS ⊢
        refine W.eq (g2 := F0 m 174 ls [.int v27, .int v23]) rfl ?_
        refine lv_icmp_eq (tgt := 373) hx hb d_law_174 (by decide) (fun c29 => ?_) (fun c29 => ?_)
        · rw [if_pos c29] at h
          refine lv_iinc (v := i + 4) (lv' := [(3, .int (i + 4)), (0, .ref b), (1, .ref (a 0)), (2, .ref (a2 0))]) hx hb d_law_373 hl (k := 3) rfl rfl (by decide) rfl (fun ls hl => ?_)
          refine lv_goto (tgt := 18) hx hb d_law_376 (by decide) ?_
          exact ih T22 M26 (i + 4) h _ _ hPT hPM hS ls (lv_sub hl [1, 2, 3, 0] rfl)
        · rw [if_neg c29] at h
          refine lv_iconst (v := 0) hx hb d_law_177 (by decide) ?_
          exact absurd (Option.some.inj h) (by decide)
      rw [if_neg s2] at h
      by_cases s3 : w0 = 3
      · rw [if_pos s3] at h
        rw [s3]
        refine lv_tableIn (off := 147) (tgt := 179) hx hb d_law_32 (by decide) (by decide) (by decide) (by decide) ?_
        refine lv_aload_n hx hb d_law_179 rfl (lv_at hl 1 rfl) ?_
        refine lv_aload_n hx hb d_law_180 rfl (lv_at hl 0 rfl) ?_
        refine lv_iload_n hx hb d_law_181 rfl (lv_at hl 3 rfl) ?_
        refine lv_iconst (v := 1) hx hb d_law_182 (by decide) ?_
        refine lv_iadd hx hb d_law_183 ?_
        obtain ⟨g30, h⟩ := gd_some h
        refine va_sld hx hb hX hbl hbA hS (okb_in g30) d_law_184 ?_
        obtain ⟨v32, e31, h⟩ := Option.bind_eq_some_iff.mp h
        refine T_callR (As := [.int (xs (cl (i + 1)))]) (rest := []) (r := v32) E hK hPT (c_t_lookup l D a cA S (xs (cl (i + 1))) v32 e31) k_t_lookup lk_law_27 ⟨by decide +kernel, by decide +kernel⟩ rfl hl.1 rfl (Nat.le_of_ble_eq_true rfl) d_law_185 ⟨by decide +kernel, by decide +kernel⟩ ?_
        refine lv_aload_n hx hb d_law_188 rfl (lv_at hl 2 rfl) ?_
        refine lv_aload_n hx hb d_law_189 rfl (lv_at hl 0 rfl) ?_
        refine lv_iload_n hx hb d_law_190 rfl (lv_at hl 3 rfl) ?_
        refine lv_iconst (v := 1) hx hb d_law_191 (by decide) ?_
        refine lv_iadd hx hb d_law_192 ?_
        refine va_sld hx hb hX hbl hbA hS (okb_in g30) d_law_193 ?_
        obtain ⟨⟨v35, M34⟩, e33, h⟩ := Option.bind_eq_some_iff.mp h
        try dsimp only at h
        refine M_callM (As := [.int (xs (cl (i + 1)))]) (rest := [.int v32]) (v := some (.int v35)) (S' := M34) E hK hDM hPM hS (c_m_lookup l D a2 cA M (xs (cl (i + 1))) v35 M34 e33) k_m_lookup lk_law_31 ⟨by decide +kernel, by decide +kernel⟩ rfl hl.1 rfl (Nat.le_of_ble_eq_true rfl) d_law_194 ⟨by decide +kernel, by decide +kernel⟩ (fun H1 locs hPM hS hk1 hz1 => ?_)
        have hPT := keepT hap hPT hk1
        clear hk1 hz1
        generalize H1 = H at hPT hPM hS ⊢
        refine W.eq (g2 := F0 m 197 ls [.int v35, .int v32]) rfl ?_
        refine lv_icmp_eq (tgt := 373) hx hb d_law_197 (by decide) (fun c37 => ?_) (fun c37 => ?_)
        · rw [if_pos c37] at h
          refine lv_iinc (v := i + 4) (lv' := [(3, .int (i + 4)), (0, .ref b), (1, .ref (a 0)), (2, .ref (a2 0))]) hx hb d_law_373 hl (k := 3) rfl rfl (by decide) rfl (fun ls hl => ?_)
          refine lv_goto (tgt := 18) hx hb d_law_376 (by decide) ?_
          exact ih S M34 (i + 4) h _ _ hPT hPM hS ls (lv_sub hl [1, 2, 3, 0] rfl)
        · rw [if_neg c37] at h
          refine lv_iconst (v := 0) hx hb d_law_200 (by decide) ?_
          exact absurd (Option.some.inj h) (by decide)
      rw [if_neg s3] at h
      by_cases s4 : w0 = 4
      · rw [if_pos s4] at h
        rw [s4]
        refine lv_tableIn (off := 170) (tgt := 202) hx hb d_law_32 (by decide) (by decide) (by decide) (by decide) ?_
        refine lv_aload_n hx hb d_law_202 rfl (lv_at hl 1 rfl) ?_
        refine lv_aload_n hx hb d_law_203 rfl (lv_at hl 0 rfl) ?_
        refine lv_iload_n hx hb d_law_204 rfl (lv_at hl 3 rfl) ?_
        refine lv_iconst (v := 1) hx hb d_law_205 (by decide) ?_
        refine lv_iadd hx hb d_law_206 ?_
        obtain ⟨g38, h⟩ := gd_some h
        refine va_sld hx hb hX hbl hbA hS (okb_in g38) d_law_207 ?_
        obtain ⟨v40, e39, h⟩ := Option.bind_eq_some_iff.mp h
        refine T_callR (As := [.int (xs (cl (i + 1)))]) (rest := []) (r := v40) E hK hPT (c_t_lookupLen l D a cA S (xs (cl (i + 1))) v40 e39) k_t_lookupLen lk_law_32 ⟨by decide +kernel, by decide +kernel⟩ rfl hl.1 rfl (Nat.le_of_ble_eq_true rfl) d_law_208 ⟨by decide +kernel, by decide +kernel⟩ ?_
        refine lv_aload_n hx hb d_law_211 rfl (lv_at hl 2 rfl) ?_
        refine lv_aload_n hx hb d_law_212 rfl (lv_at hl 0 rfl) ?_
        refine lv_iload_n hx hb d_law_213 rfl (lv_at hl 3 rfl) ?_
        refine lv_iconst (v := 1) hx hb d_law_214 (by decide) ?_
        refine lv_iadd hx hb d_law_215 ?_
        refine va_sld hx hb hX hbl hbA hS (okb_in g38) d_law_216 ?_
        obtain ⟨⟨v43, M42⟩, e41, h⟩ := Option.bind_eq_some_iff.mp h
        try dsimp only at h
        refine M_callM (As := [.int (xs (cl (i + 1)))]) (rest := [.int v40]) (v := some (.int v43)) (S' := M42) E hK hDM hPM hS (c_m_lookupLen l D a2 cA M (xs (cl (i + 1))) v43 M42 e41) k_m_lookupLen lk_law_35 ⟨by decide +kernel, by decide +kernel⟩ rfl hl.1 rfl (Nat.le_of_ble_eq_true rfl) d_law_217 ⟨by decide +kernel, by decide +kernel⟩ (fun H1 locs hPM hS hk1 hz1 => ?_)
        have hPT := keepT hap hPT hk1
        clear hk1 hz1
        generalize H1 = H at hPT hPM hS ⊢
        refine W.eq (g2 := F0 m 220 ls [.int v43, .int v40]) rfl ?_
        refine lv_icmp_eq (tgt := 373) hx hb d_law_220 (by decide) (fun c45 => ?_) (fun c45 => ?_)
        · rw [if_pos c45] at h
          refine lv_iinc (v := i + 4) (lv' := [(3, .int (i + 4)), (0, .ref b), (1, .ref (a 0)), (2, .ref (a2 0))]) hx hb d_law_373 hl (k := 3) rfl rfl (by decide) rfl (fun ls hl => ?_)
          refine lv_goto (tgt := 18) hx hb d_law_376 (by decide) ?_
          exact ih S M42 (i + 4) h _ _ hPT hPM hS ls (lv_sub hl [1, 2, 3, 0] rfl)
        · rw [if_neg c45] at h
          refine lv_iconst (v := 0) hx hb d_law_223 (by decide) ?_
          exact absurd (Option.some.inj h) (by decide)
      rw [if_neg s4] at h
      by_cases s5 : w0 = 5
      · rw [if_pos s5] at h
        rw [s5]
        refine lv_tableIn (off := 193) (tgt := 225) hx hb d_law_32 (by decide) (by decide) (by decide) (by decide) ?_
        refine lv_aload_n hx hb d_law_225 rfl (lv_at hl 1 rfl) ?_
        refine lv_aload_n hx hb d_law_226 rfl (lv_at hl 0 rfl) ?_
        refine lv_iload_n hx hb d_law_227 rfl (lv_at hl 3 rfl) ?_
        refine lv_iconst (v := 1) hx hb d_law_228 (by decide) ?_
        refine lv_iadd hx hb d_law_229 ?_
        obtain ⟨g46, h⟩ := gd_some h
        refine va_sld hx hb hX hbl hbA hS (okb_in g46) d_law_230 ?_
        refine lv_aload_n hx hb d_law_231 rfl (lv_at hl 0 rfl) ?_
        refine lv_iload_n hx hb d_law_232 rfl (lv_at hl 3 rfl) ?_
        refine lv_iconst (v := 2) hx hb d_law_233 (by decide) ?_
        refine lv_iadd hx hb d_law_234 ?_
        obtain ⟨g47, h⟩ := gd_some h
        refine va_sld hx hb hX hbl hbA hS (okb_in g47) d_law_235 ?_
        obtain ⟨v49, e48, h⟩ := Option.bind_eq_some_iff.mp h
        refine T_callR (As := [.int (xs (cl (i + 1))), .int (xs (cl (i + 2)))]) (rest := []) (r := v49) E hK hPT (c_t_exact l D a cA S (xs (cl (i + 1))) (xs (cl (i + 2))) v49 e48) k_t_exact lk_law_36 ⟨by decide +kernel, by decide +kernel⟩ rfl hl.1 rfl (Nat.le_of_ble_eq_true rfl) d_law_236 ⟨by decide +kernel, by decide +kernel⟩ ?_
        refine lv_aload_n hx hb d_law_239 rfl (lv_at hl 2 rfl) ?_
        refine lv_aload_n hx hb d_law_240 rfl (lv_at hl 0 rfl) ?_
        refine lv_iload_n hx hb d_law_241 rfl (lv_at hl 3 rfl) ?_
        refine lv_iconst (v := 1) hx hb d_law_242 (by decide) ?_
        refine lv_iadd hx hb d_law_243 ?_
        refine va_sld hx hb hX hbl hbA hS (okb_in g46) d_law_244 ?_
        refine lv_aload_n hx hb d_law_245 rfl (lv_at hl 0 rfl) ?_
        refine lv_iload_n hx hb d_law_246 rfl (lv_at hl 3 rfl) ?_
        refine lv_iconst (v := 2) hx hb d_law_247 (by decide) ?_
        refine lv_iadd hx hb d_law_248 ?_
        refine va_sld hx hb hX hbl hbA hS (okb_in g47) d_law_249 ?_
        obtain ⟨⟨v52, M51⟩, e50, h⟩ := Option.bind_eq_some_iff.mp h
        try dsimp only at h
        refine M_callM (As := [.int (xs (cl (i + 1))), .int (xs (cl (i + 2)))]) (rest := [.int v49]) (v := some (.int v52)) (S' := M51) E hK hDM hPM hS (c_m_exact l D a2 cA M (xs (cl (i + 1))) (xs (cl (i + 2))) v52 M51 e50) k_m_exact lk_law_40 ⟨by decide +kernel, by decide +kernel⟩ rfl hl.1 rfl (Nat.le_of_ble_eq_true rfl) d_law_250 ⟨by decide +kernel, by decide +kernel⟩ (fun H1 locs hPM hS hk1 hz1 => ?_)
        have hPT := keepT hap hPT hk1
        clear hk1 hz1
        generalize H1 = H at hPT hPM hS ⊢
        refine W.eq (g2 := F0 m 253 ls [.int v52, .int v49]) rfl ?_
        refine lv_icmp_eq (tgt := 373) hx hb d_law_253 (by decide) (fun c54 => ?_) (fun c54 => ?_)
        · rw [if_pos c54] at h
          refine lv_iinc (v := i + 4) (lv' := [(3, .int (i + 4)), (0, .ref b), (1, .ref (a 0)), (2, .ref (a2 0))]) hx hb d_law_373 hl (k := 3) rfl rfl (by decide) rfl (fun ls hl => ?_)
          refine lv_goto (tgt := 18) hx hb d_law_376 (by decide) ?_
          exact ih S M51 (i + 4) h _ _ hPT hPM hS ls (lv_sub hl [1, 2, 3, 0] rfl)
        · rw [if_neg c54] at h
          refine lv_iconst (v := 0) hx hb d_law_256 (by decide) ?_
          exact absurd (Option.some.inj h) (by decide)
      rw [if_neg s5] at h
      by_cases s6 : w0 = 6
      · rw [if_pos s6] at h
        rw [s6]
        refine lv_tableIn (off := 226) (tgt := 258) hx hb d_law_32 (by decide) (by decide) (by decide) (by decide) ?_
        refine lv_aload_n hx hb d_law_258 rfl (lv_at hl 1 rfl) ?_
        refine lv_aload_n hx hb d_law_259 rfl (lv_at hl 0 rfl) ?_
        refine lv_iload_n hx hb d_law_260 rfl (lv_at hl 3 rfl) ?_
        refine lv_iconst (v := 1) hx hb d_law_261 (by decide) ?_
        refine lv_iadd hx hb d_law_262 ?_
        obtain ⟨g55, h⟩ := gd_some h
        refine va_sld hx hb hX hbl hbA hS (okb_in g55) d_law_263 ?_
        refine lv_aload_n hx hb d_law_264 rfl (lv_at hl 0 rfl) ?_
        refine lv_iload_n hx hb d_law_265 rfl (lv_at hl 3 rfl) ?_
        refine lv_iconst (v := 2) hx hb d_law_266 (by decide) ?_
        refine lv_iadd hx hb d_law_267 ?_
        obtain ⟨g56, h⟩ := gd_some h
        refine va_sld hx hb hX hbl hbA hS (okb_in g56) d_law_268 ?_
        obtain ⟨v58, e57, h⟩ := Option.bind_eq_some_iff.mp h
        refine T_callR (As := [.int (xs (cl (i + 1))), .int (xs (cl (i + 2)))]) (rest := []) (r := v58) E hK hPT (c_t_under l D a cA S (xs (cl (i + 1))) (xs (cl (i + 2))) v58 e57) k_t_under lk_law_41 ⟨by decide +kernel, by decide +kernel⟩ rfl hl.1 rfl (Nat.le_of_ble_eq_true rfl) d_law_269 ⟨by decide +kernel, by decide +kernel⟩ ?_
        refine lv_aload_n hx hb d_law_272 rfl (lv_at hl 2 rfl) ?_
        refine lv_aload_n hx hb d_law_273 rfl (lv_at hl 0 rfl) ?_
        refine lv_iload_n hx hb d_law_274 rfl (lv_at hl 3 rfl) ?_
        refine lv_iconst (v := 1) hx hb d_law_275 (by decide) ?_
        refine lv_iadd hx hb d_law_276 ?_
        refine va_sld hx hb hX hbl hbA hS (okb_in g55) d_law_277 ?_
        refine lv_aload_n hx hb d_law_278 rfl (lv_at hl 0 rfl) ?_
        refine lv_iload_n hx hb d_law_279 rfl (lv_at hl 3 rfl) ?_
        refine lv_iconst (v := 2) hx hb d_law_280 (by decide) ?_
        refine lv_iadd hx hb d_law_281 ?_
        refine va_sld hx hb hX hbl hbA hS (okb_in g56) d_law_282 ?_
        obtain ⟨⟨v61, M60⟩, e59, h⟩ := Option.bind_eq_some_iff.mp h
        try dsimp only at h
        refine M_callM (As := [.int (xs (cl (i + 1))), .int (xs (cl (i + 2)))]) (rest := [.int v58]) (v := some (.int v61)) (S' := M60) E hK hDM hPM hS (c_m_under l D a2 cA M (xs (cl (i + 1))) (xs (cl (i + 2))) v61 M60 e59) k_m_under lk_law_44 ⟨by decide +kernel, by decide +kernel⟩ rfl hl.1 rfl (Nat.le_of_ble_eq_true rfl) d_law_283 ⟨by decide +kernel, by decide +kernel⟩ (fun H1 locs hPM hS hk1 hz1 => ?_)
        have hPT := keepT hap hPT hk1
        clear hk1 hz1
        generalize H1 = H at hPT hPM hS ⊢
        refine W.eq (g2 := F0 m 286 ls [.int v61, .int v58]) rfl ?_
        refine lv_icmp_eq (tgt := 373) hx hb d_law_286 (by decide) (fun c63 => ?_) (fun c63 => ?_)
        · rw [if_pos c63] at h
          refine lv_iinc (v := i + 4) (lv' := [(3, .int (i + 4)), (0, .ref b), (1, .ref (a 0)), (2, .ref (a2 0))]) hx hb d_law_373 hl (k := 3) rfl rfl (by decide) rfl (fun ls hl => ?_)
          refine lv_goto (tgt := 18) hx hb d_law_376 (by decide) ?_
          exact ih S M60 (i + 4) h _ _ hPT hPM hS ls (lv_sub hl [1, 2, 3, 0] rfl)
        · rw [if_neg c63] at h
          refine lv_iconst (v := 0) hx hb d_law_289 (by decide) ?_
          exact absurd (Option.some.inj h) (by decide)
      rw [if_neg s6] at h
      by_cases s7 : w0 = 7
      · rw [if_pos s7] at h
        rw [s7]
        refine lv_tableIn (off := 259) (tgt := 291) hx hb d_law_32 (by decide) (by decide) (by decide) (by decide) ?_
        refine lv_aload_n hx hb d_law_291 rfl (lv_at hl 1 rfl) ?_
        refine lv_aload_n hx hb d_law_292 rfl (lv_at hl 0 rfl) ?_
        refine lv_iload_n hx hb d_law_293 rfl (lv_at hl 3 rfl) ?_
        refine lv_iconst (v := 1) hx hb d_law_294 (by decide) ?_
        refine lv_iadd hx hb d_law_295 ?_
        obtain ⟨g64, h⟩ := gd_some h
        refine va_sld hx hb hX hbl hbA hS (okb_in g64) d_law_296 ?_
        refine lv_aload_n hx hb d_law_297 rfl (lv_at hl 0 rfl) ?_
        refine lv_iload_n hx hb d_law_298 rfl (lv_at hl 3 rfl) ?_
        refine lv_iconst (v := 2) hx hb d_law_299 (by decide) ?_
        refine lv_iadd hx hb d_law_300 ?_
        obtain ⟨g65, h⟩ := gd_some h
        refine va_sld hx hb hX hbl hbA hS (okb_in g65) d_law_301 ?_
        obtain ⟨v67, e66, h⟩ := Option.bind_eq_some_iff.mp h
        refine T_callR (As := [.int (xs (cl (i + 1))), .int (xs (cl (i + 2)))]) (rest := []) (r := v67) E hK hPT (c_t_route l D a cA S (xs (cl (i + 1))) (xs (cl (i + 2))) v67 e66) k_t_route lk_law_45 ⟨by decide +kernel, by decide +kernel⟩ rfl hl.1 rfl (Nat.le_of_ble_eq_true rfl) d_law_302 ⟨by decide +kernel, by decide +kernel⟩ ?_
        refine lv_aload_n hx hb d_law_305 rfl (lv_at hl 2 rfl) ?_
        refine lv_aload_n hx hb d_law_306 rfl (lv_at hl 0 rfl) ?_
        refine lv_iload_n hx hb d_law_307 rfl (lv_at hl 3 rfl) ?_
        refine lv_iconst (v := 1) hx hb d_law_308 (by decide) ?_
        refine lv_iadd hx hb d_law_309 ?_
        refine va_sld hx hb hX hbl hbA hS (okb_in g64) d_law_310 ?_
        refine lv_aload_n hx hb d_law_311 rfl (lv_at hl 0 rfl) ?_
        refine lv_iload_n hx hb d_law_312 rfl (lv_at hl 3 rfl) ?_
        refine lv_iconst (v := 2) hx hb d_law_313 (by decide) ?_
        refine lv_iadd hx hb d_law_314 ?_
        refine va_sld hx hb hX hbl hbA hS (okb_in g65) d_law_315 ?_
        obtain ⟨⟨v70, M69⟩, e68, h⟩ := Option.bind_eq_some_iff.mp h
        try dsimp only at h
        refine M_callM (As := [.int (xs (cl (i + 1))), .int (xs (cl (i + 2)))]) (rest := [.int v67]) (v := some (.int v70)) (S' := M69) E hK hDM hPM hS (c_m_route l D a2 cA M (xs (cl (i + 1))) (xs (cl (i + 2))) v70 M69 e68) k_m_route lk_law_48 ⟨by decide +kernel, by decide +kernel⟩ rfl hl.1 rfl (Nat.le_of_ble_eq_true rfl) d_law_316 ⟨by decide +kernel, by decide +kernel⟩ (fun H1 locs hPM hS hk1 hz1 => ?_)
        have hPT := keepT hap hPT hk1
        clear hk1 hz1
        generalize H1 = H at hPT hPM hS ⊢
        refine W.eq (g2 := F0 m 319 ls [.int v70, .int v67]) rfl ?_
        refine lv_icmp_eq (tgt := 373) hx hb d_law_319 (by decide) (fun c72 => ?_) (fun c72 => ?_)
        · rw [if_pos c72] at h
          refine lv_iinc (v := i + 4) (lv' := [(3, .int (i + 4)), (0, .ref b), (1, .ref (a 0)), (2, .ref (a2 0))]) hx hb d_law_373 hl (k := 3) rfl rfl (by decide) rfl (fun ls hl => ?_)
          refine lv_goto (tgt := 18) hx hb d_law_376 (by decide) ?_
          exact ih S M69 (i + 4) h _ _ hPT hPM hS ls (lv_sub hl [1, 2, 3, 0] rfl)
        · rw [if_neg c72] at h
          refine lv_iconst (v := 0) hx hb d_law_322 (by decide) ?_
          exact absurd (Option.some.inj h) (by decide)
      rw [if_neg s7] at h
      by_cases s8 : w0 = 8
      · rw [if_pos s8] at h
        rw [s8]
        refine lv_tableIn (off := 292) (tgt := 324) hx hb d_law_32 (by decide) (by decide) (by decide) (by decide) ?_
        refine lv_aload_n hx hb d_law_324 rfl (lv_at hl 1 rfl) ?_
        obtain ⟨v74, e73, h⟩ := Option.bind_eq_some_iff.mp h
        refine T_callR (As := []) (rest := []) (r := v74) E hK hPT (c_t_count l D a cA S  v74 e73) k_t_count lk_law_49 ⟨by decide +kernel, by decide +kernel⟩ rfl hl.1 rfl (Nat.le_of_ble_eq_true rfl) d_law_325 ⟨by decide +kernel, by decide +kernel⟩ ?_
        refine lv_aload_n hx hb d_law_328 rfl (lv_at hl 2 rfl) ?_
        obtain ⟨⟨v77, M76⟩, e75, h⟩ := Option.bind_eq_some_iff.mp h
        try dsimp only at h
        refine M_callM (As := []) (rest := [.int v74]) (v := some (.int v77)) (S' := M76) E hK hDM hPM hS (c_m_count l D a2 cA M  v77 M76 e75) k_m_count lk_law_53 ⟨by decide +kernel, by decide +kernel⟩ rfl hl.1 rfl (Nat.le_of_ble_eq_true rfl) d_law_329 ⟨by decide +kernel, by decide +kernel⟩ (fun H1 locs hPM hS hk1 hz1 => ?_)
        have hPT := keepT hap hPT hk1
        clear hk1 hz1
        generalize H1 = H at hPT hPM hS ⊢
        refine W.eq (g2 := F0 m 332 ls [.int v77, .int v74]) rfl ?_
        refine lv_icmp_eq (tgt := 373) hx hb d_law_332 (by decide) (fun c79 => ?_) (fun c79 => ?_)
        · rw [if_pos c79] at h
          refine lv_iinc (v := i + 4) (lv' := [(3, .int (i + 4)), (0, .ref b), (1, .ref (a 0)), (2, .ref (a2 0))]) hx hb d_law_373 hl (k := 3) rfl rfl (by decide) rfl (fun ls hl => ?_)
          refine lv_goto (tgt := 18) hx hb d_law_376 (by decide) ?_
          exact ih S M76 (i + 4) h _ _ hPT hPM hS ls (lv_sub hl [1, 2, 3, 0] rfl)
        · rw [if_neg c79] at h
          refine lv_iconst (v := 0) hx hb d_law_335 (by decide) ?_
          exact absurd (Option.some.inj h) (by decide)
      rw [if_neg s8] at h
      by_cases s9 : w0 = 9
      · rw [if_pos s9] at h
        rw [s9]
        refine lv_tableIn (off := 305) (tgt := 337) hx hb d_law_32 (by decide) (by decide) (by decide) (by decide) ?_
        refine lv_aload_n hx hb d_law_337 rfl (lv_at hl 1 rfl) ?_
        obtain ⟨v81, e80, h⟩ := Option.bind_eq_some_iff.mp h
        refine T_callR (As := []) (rest := []) (r := v81) E hK hPT (c_t_nodes l D a cA S  v81 e80) k_t_nodes lk_law_54 ⟨by decide +kernel, by decide +kernel⟩ rfl hl.1 rfl (Nat.le_of_ble_eq_true rfl) d_law_338 ⟨by decide +kernel, by decide +kernel⟩ ?_
        refine lv_aload_n hx hb d_law_341 rfl (lv_at hl 2 rfl) ?_
        obtain ⟨⟨v84, M83⟩, e82, h⟩ := Option.bind_eq_some_iff.mp h
        try dsimp only at h
        refine M_callM (As := []) (rest := [.int v81]) (v := some (.int v84)) (S' := M83) E hK hDM hPM hS (c_m_nodes l D a2 cA M  v84 M83 e82) k_m_nodes lk_law_57 ⟨by decide +kernel, by decide +kernel⟩ rfl hl.1 rfl (Nat.le_of_ble_eq_true rfl) d_law_342 ⟨by decide +kernel, by decide +kernel⟩ (fun H1 locs hPM hS hk1 hz1 => ?_)
        have hPT := keepT hap hPT hk1
        clear hk1 hz1
        generalize H1 = H at hPT hPM hS ⊢
        refine W.eq (g2 := F0 m 345 ls [.int v84, .int v81]) rfl ?_
        refine lv_icmp_eq (tgt := 373) hx hb d_law_345 (by decide) (fun c86 => ?_) (fun c86 => ?_)
        · rw [if_pos c86] at h
          refine lv_iinc (v := i + 4) (lv' := [(3, .int (i + 4)), (0, .ref b), (1, .ref (a 0)), (2, .ref (a2 0))]) hx hb d_law_373 hl (k := 3) rfl rfl (by decide) rfl (fun ls hl => ?_)
          refine lv_goto (tgt := 18) hx hb d_law_376 (by decide) ?_
          exact ih S M83 (i + 4) h _ _ hPT hPM hS ls (lv_sub hl [1, 2, 3, 0] rfl)
        · rw [if_neg c86] at h
          refine lv_iconst (v := 0) hx hb d_law_348 (by decide) ?_
          exact absurd (Option.some.inj h) (by decide)
      rw [if_neg s9] at h
      by_cases s10 : w0 = 10
      · rw [if_pos s10] at h
        rw [s10]
        refine lv_tableIn (off := 318) (tgt := 350) hx hb d_law_32 (by decide) (by decide) (by decide) (by decide) ?_
        refine lv_aload_n hx hb d_law_350 rfl (lv_at hl 1 rfl) ?_
        refine lv_aload_n hx hb d_law_351 rfl (lv_at hl 0 rfl) ?_
        refine lv_iload_n hx hb d_law_352 rfl (lv_at hl 3 rfl) ?_
        refine lv_iconst (v := 1) hx hb d_law_353 (by decide) ?_
        refine lv_iadd hx hb d_law_354 ?_
        obtain ⟨g87, h⟩ := gd_some h
        refine va_sld hx hb hX hbl hbA hS (okb_in g87) d_law_355 ?_
        obtain ⟨v89, e88, h⟩ := Option.bind_eq_some_iff.mp h
        refine T_callR (As := [.int (xs (cl (i + 1)))]) (rest := []) (r := v89) E hK hPT (c_t_depth l D a cA S (xs (cl (i + 1))) v89 e88) k_t_depth lk_law_58 ⟨by decide +kernel, by decide +kernel⟩ rfl hl.1 rfl (Nat.le_of_ble_eq_true rfl) d_law_356 ⟨by decide +kernel, by decide +kernel⟩ ?_
        refine lv_aload_n hx hb d_law_359 rfl (lv_at hl 2 rfl) ?_
        refine lv_aload_n hx hb d_law_360 rfl (lv_at hl 0 rfl) ?_
        refine lv_iload_n hx hb d_law_361 rfl (lv_at hl 3 rfl) ?_
        refine lv_iconst (v := 1) hx hb d_law_362 (by decide) ?_
        refine lv_iadd hx hb d_law_363 ?_
        refine va_sld hx hb hX hbl hbA hS (okb_in g87) d_law_364 ?_
        obtain ⟨⟨v92, M91⟩, e90, h⟩ := Option.bind_eq_some_iff.mp h
        try dsimp only at h
        refine M_callM (As := [.int (xs (cl (i + 1)))]) (rest := [.int v89]) (v := some (.int v92)) (S' := M91) E hK hDM hPM hS (c_m_depth l D a2 cA M (xs (cl (i + 1))) v92 M91 e90) k_m_depth lk_law_61 ⟨by decide +kernel, by decide +kernel⟩ rfl hl.1 rfl (Nat.le_of_ble_eq_true rfl) d_law_365 ⟨by decide +kernel, by decide +kernel⟩ (fun H1 locs hPM hS hk1 hz1 => ?_)
        have hPT := keepT hap hPT hk1
        clear hk1 hz1
        generalize H1 = H at hPT hPM hS ⊢
        refine W.eq (g2 := F0 m 368 ls [.int v92, .int v89]) rfl ?_
        refine lv_icmp_eq (tgt := 373) hx hb d_law_368 (by decide) (fun c94 => ?_) (fun c94 => ?_)
        · rw [if_pos c94] at h
          refine lv_iinc (v := i + 4) (lv' := [(3, .int (i + 4)), (0, .ref b), (1, .ref (a 0)), (2, .ref (a2 0))]) hx hb d_law_373 hl (k := 3) rfl rfl (by decide) rfl (fun ls hl => ?_)
          refine lv_goto (tgt := 18) hx hb d_law_376 (by decide) ?_
          exact ih S M91 (i + 4) h _ _ hPT hPM hS ls (lv_sub hl [1, 2, 3, 0] rfl)
        · rw [if_neg c94] at h
          refine lv_iconst (v := 0) hx hb d_law_371 (by decide) ?_
          exact absurd (Option.some.inj h) (by decide)
      rw [if_neg s10] at h
      refine lv_tableOut (tgt := 373) hx hb d_law_32 (by have z0 := lv_neT (a := 0) s0 (by decide); have z1 := lv_neT (a := 1) s1 (by decide); have z2 := lv_neT (a := 2) s2 (by decide); have z3 := lv_neT (a := 3) s3 (by decide); have z4 := lv_neT (a := 4) s4 (by decide); have z5 := lv_neT (a := 5) s5 (by decide); have z6 := lv_neT (a := 6) s6 (by decide); have z7 := lv_neT (a := 7) s7 (by decide); have z8 := lv_neT (a := 8) s8 (by decide); have z9 := lv_neT (a := 9) s9 (by decide); have z10 := lv_neT (a := 10) s10 (by decide); omega) (by decide) ?_
      refine lv_iinc (v := i + 4) (lv' := [(3, .int (i + 4)), (0, .ref b), (1, .ref (a 0)), (2, .ref (a2 0))]) hx hb d_law_373 hl (k := 3) rfl rfl (by decide) rfl (fun ls hl => ?_)
      refine lv_goto (tgt := 18) hx hb d_law_376 (by decide) ?_
      exact ih S M (i + 4) h _ _ hPT hPM hS ls (lv_sub hl [1, 2, 3, 0] rfl)
end
section
def bt (x : Int32) (i : Nat) : Bool := x.toBitVec.getLsbD i
theorem b_ext {x y : Int32} (h : ∀ i, i < 32 → bt x i = bt y i) : x = y := Int32.toBitVec_inj.mp (BitVec.eq_of_getLsbD_eq (fun i hi => h i hi))
theorem b_or (x y : Int32) (i : Nat) : bt (x ||| y) i = (bt x i || bt y i) := by unfold bt; rw [Int32.toBitVec_or, BitVec.getLsbD_or]
theorem b_and (x y : Int32) (i : Nat) : bt (x &&& y) i = (bt x i && bt y i) := by unfold bt; rw [Int32.toBitVec_and, BitVec.getLsbD_and]
theorem b_xor (x y : Int32) (i : Nat) : bt (x ^^^ y) i = (bt x i ^^ bt y i) := by unfold bt; rw [Int32.toBitVec_xor, BitVec.getLsbD_xor]
theorem b_big {x : Int32} {i : Nat} (h : 32 ≤ i) : bt x i = false := BitVec.getLsbD_of_ge _ _ h
theorem b_m1 : ∀ i, i < 32 → bt (-1) i = true := by decide +kernel
theorem b_0 (i : Nat) : bt 0 i = false := BitVec.getLsbD_zero
theorem s_l : ∀ n, n < 32 → ((nI n &&& 31).toBitVec.smod 32).toNat = n := by decide +kernel
theorem s_u : ∀ n, n < 32 → (((nI n).toUInt32 &&& Int32.toUInt32 31).toBitVec % 32).toNat = n := by decide +kernel
theorem b_shl (n : Nat) (hn : n < 32) (x : Int32) {i : Nat} (hi : i < 32) : bt (x <<< (nI n &&& 31)) i = (decide (n ≤ i) && bt x (i - n)) := by
  unfold bt
  rw [Int32.toBitVec_shiftLeft]
  show (x.toBitVec <<< ((nI n &&& 31).toBitVec.smod 32).toNat).getLsbD i = _
  rw [s_l n hn, BitVec.getLsbD_shiftLeft]
  rcases Nat.lt_or_ge i n with h | h
  · simp [h, Nat.not_le.mpr h]
  · simp [hi, h, Nat.not_lt.mpr h]
theorem b_ushr (n : Nat) (hn : n < 32) (x : Int32) (i : Nat) : bt ((x.toUInt32 >>> ((nI n).toUInt32 &&& Int32.toUInt32 31)).toInt32) i = bt x (n + i) := by
  show (x.toUInt32 >>> ((nI n).toUInt32 &&& Int32.toUInt32 31)).toBitVec.getLsbD i = x.toUInt32.toBitVec.getLsbD (n + i)
  rw [UInt32.toBitVec_shiftRight]
  show (x.toUInt32.toBitVec >>> (((nI n).toUInt32 &&& Int32.toUInt32 31).toBitVec % 32).toNat).getLsbD i = _
  rw [s_u n hn, BitVec.getLsbD_ushiftRight]
theorem b_sshr (n : Nat) (hn : n < 32) (x : Int32) {i : Nat} (hi : i < 32) : bt (x >>> (nI n &&& 31)) i = if n + i < 32 then bt x (n + i) else bt x 31 := by
  unfold bt
  rw [Int32.toBitVec_shiftRight]
  show (x.toBitVec.sshiftRight ((nI n &&& 31).toBitVec.smod 32).toNat).getLsbD i = _
  rw [s_l n hn, BitVec.getLsbD_sshiftRight, BitVec.msb_eq_getLsbD_last]
  simp [hi]
-- bits from the top: mb v i is bit i of v, counted from the most significant one
def mb (v : Int32) (i : Nat) : Bool := decide (i < 32) && bt v (31 - i)
theorem mb_lt {v : Int32} {i : Nat} (h : i < 32) : mb v i = bt v (31 - i) := by simp [mb, h]
theorem mb_big {v : Int32} {i : Nat} (h : 32 ≤ i) : mb v i = false := by simp [mb, Nat.not_lt.mpr h]
theorem mb_ext {x y : Int32} (h : ∀ i, i < 32 → mb x i = mb y i) : x = y := by
  apply b_ext
  intro i hi
  have := h (31 - i) (by omega)
  rw [mb_lt (by omega), mb_lt (by omega)] at this
  rwa [show 31 - (31 - i) = i by omega] at this
theorem mb_and (x y : Int32) (i : Nat) : mb (x &&& y) i = (mb x i && mb y i) := by
  rcases Nat.lt_or_ge i 32 with h | h
  · rw [mb_lt h, mb_lt h, mb_lt h, b_and]
  · rw [mb_big h, mb_big h]; rfl
theorem mb_xor (x y : Int32) (i : Nat) : mb (x ^^^ y) i = (mb x i ^^ mb y i) := by
  rcases Nat.lt_or_ge i 32 with h | h
  · rw [mb_lt h, mb_lt h, mb_lt h, b_xor]
  · rw [mb_big h, mb_big h, mb_big h]; rfl
theorem mb_0 (i : Nat) : mb 0 i = false := by
  rcases Nat.lt_or_ge i 32 with h | h
  · rw [mb_lt h, b_0]
  · exact mb_big h
theorem mb_m1 {i : Nat} (h : i < 32) : mb (-1) i = true := by rw [mb_lt h]; exact b_m1 _ (by omega)
def msk (l : Nat) : Int32 := if l = 0 then 0 else ((-1) : Int32) <<< ((32 - nI l) &&& 31)
theorem msk_tab : ∀ l, l < 33 → ∀ i, i < 32 → mb (msk l) i = decide (i < l) := by decide +kernel
theorem mb_msk {l : Nat} (hl : l ≤ 32) (i : Nat) : mb (msk l) i = decide (i < l) := by
  rcases Nat.lt_or_ge i 32 with h | h
  · exact msk_tab l (by omega) i h
  · rw [mb_big h, decide_eq_false (by omega)]
theorem nI_zero {l : Nat} (hl : l < 2 ^ 31) : nI l = 0 ↔ l = 0 := by
  rw [← nI_0]; exact nI_eq hl (by decide)
theorem tmask_eq {l : Nat} (hl : l ≤ 32) : j_t_mask (nI l) = some (msk l) := by
  unfold j_t_mask msk
  by_cases h : l = 0
  · rw [if_pos ((nI_zero (by omega)).mpr h), if_pos h]
  · rw [if_neg (fun e => h ((nI_zero (by omega)).mp e)), if_neg h]
theorem mmask_eq {l : Nat} (hl : l ≤ 32) : j_m_mask (nI l) = some (msk l) := by
  unfold j_m_mask msk
  by_cases h : l = 0
  · rw [if_pos ((nI_zero (by omega)).mpr h), if_pos h]
  · rw [if_neg (fun e => h ((nI_zero (by omega)).mp e)), if_neg h]
/-- b is a string of at most l bits, zeros behind -/
abbrev Vd (b : Int32) (l : Nat) : Prop := l ≤ 32 ∧ ∀ i, i < 32 → l ≤ i → mb b i = false
theorem Vd.z {b : Int32} {l i : Nat} (h : Vd b l) (hi : l ≤ i) : mb b i = false := by
  rcases Nat.lt_or_ge i 32 with h1 | h1
  · exact h.2 i h1 hi
  · exact mb_big h1
theorem and_msk {v b : Int32} {l : Nat} (h : Vd b l) : v &&& msk l = b ↔ ∀ i, i < l → mb v i = mb b i := by
  constructor
  · intro e i hi
    rw [← e, mb_and, mb_msk h.1, decide_eq_true hi, Bool.and_true]
  · intro e
    apply mb_ext
    intro i hi
    rw [mb_and, mb_msk h.1]
    by_cases hl : i < l
    · rw [decide_eq_true hl, Bool.and_true, e i hl]
    · rw [decide_eq_false hl, Bool.and_false, h.z (by omega)]
theorem vd_and {v : Int32} {l : Nat} (hl : l ≤ 32) : Vd (v &&& msk l) l := ⟨hl, fun i hi h => by rw [mb_and, mb_msk hl, decide_eq_false (by omega), Bool.and_false]⟩
theorem mb_and_msk {v : Int32} {l i : Nat} (hl : l ≤ 32) (hi : i < l) : mb (v &&& msk l) i = mb v i := by rw [mb_and, mb_msk hl, decide_eq_true hi, Bool.and_true]
theorem vd_iff {b : Int32} {l : Nat} (hl : l ≤ 32) : (b &&& (msk l ^^^ (-1))) = 0 ↔ Vd b l := by
  constructor
  · intro e
    refine ⟨hl, fun i hi h => ?_⟩
    have h2 := congrArg (fun v => mb v i) e
    simp only [mb_and, mb_xor, mb_msk hl, mb_m1 hi, mb_0] at h2
    rw [decide_eq_false (by omega)] at h2
    simpa using h2
  · intro h
    apply mb_ext
    intro i hi
    rw [mb_and, mb_xor, mb_msk hl, mb_m1 hi, mb_0]
    by_cases hl2 : i < l
    · rw [decide_eq_true hl2]; simp
    · rw [h.z (by omega)]; rfl
theorem i32_range {x : Int32} (h0 : ¬ x < 0) (h1 : ¬ (32 : Int32) < x) : ∃ l, l ≤ 32 ∧ x = nI l := nI_of2 (M := 32) (n := 32) (by decide) h0 (Int32.not_lt.mp h1)
/-- isPrefix answers 1 just for lengths 0 to 32 with zeros behind -/
theorem tpre_eq (p x : Int32) : (∃ l, l ≤ 32 ∧ x = nI l ∧ Vd p l ∧ j_t_isPrefix p x = some 1) ∨ ((∀ l, l ≤ 32 → x = nI l → ¬ Vd p l) ∧ j_t_isPrefix p x = some 0) := by
  unfold j_t_isPrefix
  by_cases h0 : x < 0
  · right
    refine ⟨fun l hl e => ?_, if_pos h0⟩
    rw [e] at h0
    exact absurd h0 (nI_pos (by omega))
  · rw [if_neg h0]
    by_cases h1 : (32 : Int32) < x
    · right
      refine ⟨fun l hl e => ?_, if_pos h1⟩
      rw [e] at h1
      exact absurd h1 (nI_nlt (a := 32) (b := l) hl (by omega))
    · rw [if_neg h1]
      obtain ⟨l, hl, rfl⟩ := i32_range h0 h1
      rw [tmask_eq hl]
      show (∃ l', _) ∨ (_ ∧ (if (p &&& (msk l ^^^ (-1))) = 0 then some 1 else some 0) = some 0)
      by_cases hv : Vd p l
      · left
        refine ⟨l, hl, rfl, hv, ?_⟩
        show (if (p &&& (msk l ^^^ (-1))) = 0 then some (1 : Int32) else some 0) = some 1
        rw [if_pos ((vd_iff hl).mpr hv)]
      · right
        refine ⟨fun l' hl' e => ?_, if_neg (fun e => hv ((vd_iff hl).mp e))⟩
        rwa [← (nI_eq (by omega) (by omega)).mp e]
theorem mpre_eq (p x : Int32) : j_m_isPrefix p x = j_t_isPrefix p x := by
  unfold j_m_isPrefix j_t_isPrefix
  by_cases h0 : x < 0
  · rw [if_pos h0, if_pos h0]
  · rw [if_neg h0, if_neg h0]
    by_cases h1 : (32 : Int32) < x
    · rw [if_pos h1, if_pos h1]
    · rw [if_neg h1, if_neg h1, if_pos (Int32.not_lt.mp h1)]
      rfl
theorem sub31 : ∀ k, k < 32 → (31 - nI k : Int32) = nI (31 - k) := by decide +kernel
theorem one_bit (y : Int32) (hy : ∀ i, i < 32 → bt y i = decide (i = 0 ∧ bt y 0 = true)) : y = if bt y 0 = true then 1 else 0 := by
  apply b_ext
  intro i hi
  rw [hy i hi]
  by_cases h : bt y 0 = true
  · rw [if_pos h]
    have : bt (1 : Int32) i = decide (i = 0) := (by decide +kernel : ∀ i, i < 32 → bt (1 : Int32) i = decide (i = 0)) i hi
    rw [this]; simp [h]
  · rw [if_neg h, b_0]; simp [h]
theorem b_1 {i : Nat} (hi : i < 32) : bt (1 : Int32) i = decide (i = 0) := (by decide +kernel : ∀ i, i < 32 → bt (1 : Int32) i = decide (i = 0)) i hi
theorem and_1 (y : Int32) : y &&& 1 = if bt y 0 = true then 1 else 0 := by
  apply b_ext
  intro i hi
  rw [b_and, b_1 hi]
  by_cases h : bt y 0 = true
  · rw [if_pos h, b_1 hi]
    by_cases hi0 : i = 0
    · subst hi0; simp [h]
    · simp [hi0]
  · rw [if_neg h, b_0]
    by_cases hi0 : i = 0
    · subst hi0; simp [h]
    · simp [hi0]
theorem tbit_eq (v : Int32) {k : Nat} (hk : k < 32) : j_t_bit v (nI k) = some (if mb v k = true then 1 else 0) := by
  unfold j_t_bit
  have e := b_sshr (31 - k) (by omega) v (i := 0) (by omega)
  rw [if_pos (by omega), Nat.add_zero] at e
  rw [sub31 k hk, and_1, e, mb_lt hk]
  by_cases h : bt v (31 - k) = true
  · rw [if_pos h, if_pos rfl]
  · rw [if_neg h, if_neg (by decide)]
theorem ushr_bit (v : Int32) {k : Nat} (hk : k < 32) : ((Int32.toUInt32 v >>> (Int32.toUInt32 (31 - nI k) &&& Int32.toUInt32 31)).toInt32) &&& 1 = if mb v k = true then 1 else 0 := by
  rw [sub31 k hk, and_1, b_ushr (31 - k) (by omega) v 0, mb_lt hk, Nat.add_zero]

theorem m1_0 {α : Type} {x y : α} : (if (1 : Int32) = 0 then x else y) = y := if_neg (by decide)
/-- Integer.numberOfLeadingZeros on a number above 0 -/
theorem ush_nI {n : Nat} (hn : n < 2 ^ 31) (k : Nat) (c : Int32) (hc : ((c.toUInt32 &&& Int32.toUInt32 31).toBitVec % 32).toNat = k) : (Int32.toUInt32 (nI n) >>> (Int32.toUInt32 c &&& Int32.toUInt32 31)).toInt32 = nI (n / 2 ^ k) := pk_ushrN (by omega) c k hc
theorem nlz_pos {n : Nat} (h0 : 0 < n) (hn : n < 2147483648) : ∃ e, e ≤ 30 ∧ 2 ^ e ≤ n ∧ n < 2 ^ (e + 1) ∧ j_i_nlz (nI n) = some (nI (31 - e)) := by
  have U1 : ∀ m, m < 2147483648 → (Int32.toUInt32 (nI m) >>> (Int32.toUInt32 1 &&& Int32.toUInt32 31)).toInt32 = nI (m / 2) := fun m hm => ush_nI hm 1 1 (by decide)
  have U2 : ∀ m, m < 2147483648 → (Int32.toUInt32 (nI m) >>> (Int32.toUInt32 2 &&& Int32.toUInt32 31)).toInt32 = nI (m / 4) := fun m hm => ush_nI hm 2 2 (by decide)
  have U4 : ∀ m, m < 2147483648 → (Int32.toUInt32 (nI m) >>> (Int32.toUInt32 4 &&& Int32.toUInt32 31)).toInt32 = nI (m / 16) := fun m hm => ush_nI hm 4 4 (by decide)
  have U8 : ∀ m, m < 2147483648 → (Int32.toUInt32 (nI m) >>> (Int32.toUInt32 8 &&& Int32.toUInt32 31)).toInt32 = nI (m / 256) := fun m hm => ush_nI hm 8 8 (by decide)
  have U16 : ∀ m, m < 2147483648 → (Int32.toUInt32 (nI m) >>> (Int32.toUInt32 16 &&& Int32.toUInt32 31)).toInt32 = nI (m / 65536) := fun m hm => ush_nI hm 16 16 (by decide)
  have T65536 : ∀ m, m < 2147483648 → (nI m < 65536 ↔ m < 65536) := fun m hm => nI_ltI (b := 65536) hm (by omega)
  have T256 : ∀ m, m < 2147483648 → (nI m < 256 ↔ m < 256) := fun m hm => nI_ltI (b := 256) hm (by omega)
  have T16 : ∀ m, m < 2147483648 → (nI m < 16 ↔ m < 16) := fun m hm => nI_ltI (b := 16) hm (by omega)
  have T4 : ∀ m, m < 2147483648 → (nI m < 4 ↔ m < 4) := fun m hm => nI_ltI (b := 4) hm (by omega)
  unfold j_i_nlz
  rw [if_pos (by rw [← nI_0]; exact nI_lt h0 hn)]
  by_cases c1 : n < 65536
  · rw [if_pos ((T65536 n (by omega)).mpr c1)]
    by_cases c2 : n < 256
    · rw [if_pos ((T256 n (by omega)).mpr c2)]
      by_cases c3 : n < 16
      · rw [if_pos ((T16 n (by omega)).mpr c3)]
        by_cases c4 : n < 4
        · rw [if_pos ((T4 n (by omega)).mpr c4)]
          rw [U1 n (by omega)]
          rcases (show n / 2 = 0 ∨ n / 2 = 1 by omega) with q | q
          · rw [q]
            exact ⟨0, by omega, by omega, by omega, by decide⟩
          · rw [q]
            exact ⟨1, by omega, by omega, by omega, by decide⟩
        · rw [if_neg (fun q => c4 ((T4 n (by omega)).mp q))]
          rw [U2 n (by omega)]
          rw [U1 (n / 4) (by omega)]
          rcases (show (n / 4) / 2 = 0 ∨ (n / 4) / 2 = 1 by omega) with q | q
          · rw [q]
            exact ⟨2, by omega, by omega, by omega, by decide⟩
          · rw [q]
            exact ⟨3, by omega, by omega, by omega, by decide⟩
      · rw [if_neg (fun q => c3 ((T16 n (by omega)).mp q))]
        rw [U4 n (by omega)]
        by_cases c5 : (n / 16) < 4
        · rw [if_pos ((T4 (n / 16) (by omega)).mpr c5)]
          rw [U1 (n / 16) (by omega)]
          rcases (show (n / 16) / 2 = 0 ∨ (n / 16) / 2 = 1 by omega) with q | q
          · rw [q]
            exact ⟨4, by omega, by omega, by omega, by decide⟩
          · rw [q]
            exact ⟨5, by omega, by omega, by omega, by decide⟩
        · rw [if_neg (fun q => c5 ((T4 (n / 16) (by omega)).mp q))]
          rw [U2 (n / 16) (by omega)]
          rw [U1 ((n / 16) / 4) (by omega)]
          rcases (show ((n / 16) / 4) / 2 = 0 ∨ ((n / 16) / 4) / 2 = 1 by omega) with q | q
          · rw [q]
            exact ⟨6, by omega, by omega, by omega, by decide⟩
          · rw [q]
            exact ⟨7, by omega, by omega, by omega, by decide⟩
    · rw [if_neg (fun q => c2 ((T256 n (by omega)).mp q))]
      rw [U8 n (by omega)]
      by_cases c6 : (n / 256) < 16
      · rw [if_pos ((T16 (n / 256) (by omega)).mpr c6)]
        by_cases c7 : (n / 256) < 4
        · rw [if_pos ((T4 (n / 256) (by omega)).mpr c7)]
          rw [U1 (n / 256) (by omega)]
          rcases (show (n / 256) / 2 = 0 ∨ (n / 256) / 2 = 1 by omega) with q | q
          · rw [q]
            exact ⟨8, by omega, by omega, by omega, by decide⟩
          · rw [q]
            exact ⟨9, by omega, by omega, by omega, by decide⟩
        · rw [if_neg (fun q => c7 ((T4 (n / 256) (by omega)).mp q))]
          rw [U2 (n / 256) (by omega)]
          rw [U1 ((n / 256) / 4) (by omega)]
          rcases (show ((n / 256) / 4) / 2 = 0 ∨ ((n / 256) / 4) / 2 = 1 by omega) with q | q
          · rw [q]
            exact ⟨10, by omega, by omega, by omega, by decide⟩
          · rw [q]
            exact ⟨11, by omega, by omega, by omega, by decide⟩
      · rw [if_neg (fun q => c6 ((T16 (n / 256) (by omega)).mp q))]
        rw [U4 (n / 256) (by omega)]
        by_cases c8 : ((n / 256) / 16) < 4
        · rw [if_pos ((T4 ((n / 256) / 16) (by omega)).mpr c8)]
          rw [U1 ((n / 256) / 16) (by omega)]
          rcases (show ((n / 256) / 16) / 2 = 0 ∨ ((n / 256) / 16) / 2 = 1 by omega) with q | q
          · rw [q]
            exact ⟨12, by omega, by omega, by omega, by decide⟩
          · rw [q]
            exact ⟨13, by omega, by omega, by omega, by decide⟩
        · rw [if_neg (fun q => c8 ((T4 ((n / 256) / 16) (by omega)).mp q))]
          rw [U2 ((n / 256) / 16) (by omega)]
          rw [U1 (((n / 256) / 16) / 4) (by omega)]
          rcases (show (((n / 256) / 16) / 4) / 2 = 0 ∨ (((n / 256) / 16) / 4) / 2 = 1 by omega) with q | q
          · rw [q]
            exact ⟨14, by omega, by omega, by omega, by decide⟩
          · rw [q]
            exact ⟨15, by omega, by omega, by omega, by decide⟩
  · rw [if_neg (fun q => c1 ((T65536 n (by omega)).mp q))]
    rw [U16 n (by omega)]
    by_cases c9 : (n / 65536) < 256
    · rw [if_pos ((T256 (n / 65536) (by omega)).mpr c9)]
      by_cases c10 : (n / 65536) < 16
      · rw [if_pos ((T16 (n / 65536) (by omega)).mpr c10)]
        by_cases c11 : (n / 65536) < 4
        · rw [if_pos ((T4 (n / 65536) (by omega)).mpr c11)]
          rw [U1 (n / 65536) (by omega)]
          rcases (show (n / 65536) / 2 = 0 ∨ (n / 65536) / 2 = 1 by omega) with q | q
          · rw [q]
            exact ⟨16, by omega, by omega, by omega, by decide⟩
          · rw [q]
            exact ⟨17, by omega, by omega, by omega, by decide⟩
        · rw [if_neg (fun q => c11 ((T4 (n / 65536) (by omega)).mp q))]
          rw [U2 (n / 65536) (by omega)]
          rw [U1 ((n / 65536) / 4) (by omega)]
          rcases (show ((n / 65536) / 4) / 2 = 0 ∨ ((n / 65536) / 4) / 2 = 1 by omega) with q | q
          · rw [q]
            exact ⟨18, by omega, by omega, by omega, by decide⟩
          · rw [q]
            exact ⟨19, by omega, by omega, by omega, by decide⟩
      · rw [if_neg (fun q => c10 ((T16 (n / 65536) (by omega)).mp q))]
        rw [U4 (n / 65536) (by omega)]
        by_cases c12 : ((n / 65536) / 16) < 4
        · rw [if_pos ((T4 ((n / 65536) / 16) (by omega)).mpr c12)]
          rw [U1 ((n / 65536) / 16) (by omega)]
          rcases (show ((n / 65536) / 16) / 2 = 0 ∨ ((n / 65536) / 16) / 2 = 1 by omega) with q | q
          · rw [q]
            exact ⟨20, by omega, by omega, by omega, by decide⟩
          · rw [q]
            exact ⟨21, by omega, by omega, by omega, by decide⟩
        · rw [if_neg (fun q => c12 ((T4 ((n / 65536) / 16) (by omega)).mp q))]
          rw [U2 ((n / 65536) / 16) (by omega)]
          rw [U1 (((n / 65536) / 16) / 4) (by omega)]
          rcases (show (((n / 65536) / 16) / 4) / 2 = 0 ∨ (((n / 65536) / 16) / 4) / 2 = 1 by omega) with q | q
          · rw [q]
            exact ⟨22, by omega, by omega, by omega, by decide⟩
          · rw [q]
            exact ⟨23, by omega, by omega, by omega, by decide⟩
    · rw [if_neg (fun q => c9 ((T256 (n / 65536) (by omega)).mp q))]
      rw [U8 (n / 65536) (by omega)]
      by_cases c13 : ((n / 65536) / 256) < 16
      · rw [if_pos ((T16 ((n / 65536) / 256) (by omega)).mpr c13)]
        by_cases c14 : ((n / 65536) / 256) < 4
        · rw [if_pos ((T4 ((n / 65536) / 256) (by omega)).mpr c14)]
          rw [U1 ((n / 65536) / 256) (by omega)]
          rcases (show ((n / 65536) / 256) / 2 = 0 ∨ ((n / 65536) / 256) / 2 = 1 by omega) with q | q
          · rw [q]
            exact ⟨24, by omega, by omega, by omega, by decide⟩
          · rw [q]
            exact ⟨25, by omega, by omega, by omega, by decide⟩
        · rw [if_neg (fun q => c14 ((T4 ((n / 65536) / 256) (by omega)).mp q))]
          rw [U2 ((n / 65536) / 256) (by omega)]
          rw [U1 (((n / 65536) / 256) / 4) (by omega)]
          rcases (show (((n / 65536) / 256) / 4) / 2 = 0 ∨ (((n / 65536) / 256) / 4) / 2 = 1 by omega) with q | q
          · rw [q]
            exact ⟨26, by omega, by omega, by omega, by decide⟩
          · rw [q]
            exact ⟨27, by omega, by omega, by omega, by decide⟩
      · rw [if_neg (fun q => c13 ((T16 ((n / 65536) / 256) (by omega)).mp q))]
        rw [U4 ((n / 65536) / 256) (by omega)]
        by_cases c15 : (((n / 65536) / 256) / 16) < 4
        · rw [if_pos ((T4 (((n / 65536) / 256) / 16) (by omega)).mpr c15)]
          rw [U1 (((n / 65536) / 256) / 16) (by omega)]
          rcases (show (((n / 65536) / 256) / 16) / 2 = 0 ∨ (((n / 65536) / 256) / 16) / 2 = 1 by omega) with q | q
          · rw [q]
            exact ⟨28, by omega, by omega, by omega, by decide⟩
          · rw [q]
            exact ⟨29, by omega, by omega, by omega, by decide⟩
        · rw [if_neg (fun q => c15 ((T4 (((n / 65536) / 256) / 16) (by omega)).mp q))]
          rw [U2 (((n / 65536) / 256) / 16) (by omega)]
          rw [U1 ((((n / 65536) / 256) / 16) / 4) (by omega)]
          rcases (show ((((n / 65536) / 256) / 16) / 4) / 2 = 0 ∨ ((((n / 65536) / 256) / 16) / 4) / 2 = 1 by omega) with q | q
          · rw [q]
            exact ⟨30, by omega, by omega, by omega, by decide⟩
          · rw [q]
            exact ⟨31, by omega, by omega, by omega, by decide⟩
theorem bt_nI {n i : Nat} (hn : n < 4294967296) (hi : i < 32) : bt (nI n) i = n.testBit i := by
  show (BitVec.ofNat 32 n).getLsbD i = _
  rw [BitVec.getLsbD_ofNat]
  simp [hi]
theorem tb_top {n e : Nat} (h1 : 2 ^ e ≤ n) (h2 : n < 2 ^ (e + 1)) : n.testBit e = true ∧ ∀ j, e < j → n.testBit j = false := by
  constructor
  · rw [Nat.testBit_eq_decide_div_mod_eq]
    have h3 : n / 2 ^ e = 1 := by
      apply Nat.div_eq_of_lt_le
      · omega
      · rw [Nat.pow_succ] at h2; omega
    rw [h3]; rfl
  · intro j hj
    apply Nat.testBit_lt_two_pow
    exact Nat.lt_of_lt_of_le h2 (Nat.pow_le_pow_right (by omega) hj)
/-- numberOfLeadingZeros: the place of the first 1 from the top; 32 if there is none -/
theorem nlz_spec (x : Int32) : ∃ z, z ≤ 32 ∧ j_i_nlz x = some (nI z) ∧ (∀ i, i < z → mb x i = false) ∧ (z < 32 → mb x z = true) := by
  by_cases hp : 0 < x
  · obtain ⟨n, hn, rfl⟩ := nI_of (x := x) (by
      intro h
      exact Int32.lt_irrefl (Int32.lt_trans h hp))
    have hn0 : 0 < n := by
      rcases Nat.eq_zero_or_pos n with h | h
      · subst h; exact absurd hp (by decide)
      · exact h
    obtain ⟨e, he, h1, h2, h3⟩ := nlz_pos hn0 (by omega)
    obtain ⟨t1, t2⟩ := tb_top h1 h2
    refine ⟨31 - e, by omega, h3, fun i hi => ?_, fun _ => ?_⟩
    · rw [mb_lt (by omega), bt_nI (by omega) (by omega)]
      exact t2 _ (by omega)
    · rw [mb_lt (by omega), bt_nI (by omega) (by omega), show 31 - (31 - e) = e by omega]
      exact t1
  · unfold j_i_nlz
    rw [if_neg hp]
    by_cases h0 : x = 0
    · subst h0
      exact ⟨32, Nat.le_refl _, rfl, fun i _ => mb_0 i, fun h => absurd h (by omega)⟩
    · rw [if_neg h0]
      refine ⟨0, by omega, rfl, fun i hi => absurd hi (by omega), fun _ => ?_⟩
      rw [mb_lt (by omega)]
      have hlt : x < 0 := by
        rcases Int32.lt_or_eq_of_le (Int32.not_lt.mp hp) with h | h
        · exact h
        · exact absurd h h0
      unfold bt
      have h3 : x.toBitVec.slt 0#32 = true := by
        have := Int32.lt_iff_toBitVec_slt.mp hlt
        exact this
      rw [BitVec.slt_zero_eq_msb] at h3
      rwa [BitVec.msb_eq_getLsbD_last] at h3
theorem nI_min (a b : Nat) (ha : a < 2 ^ 31) (hb : b < 2 ^ 31) : (if nI b < nI a then nI b else nI a) = nI (min a b) := by
  by_cases h : b < a
  · rw [if_pos (nI_lt h ha), Nat.min_eq_right (by omega)]
  · rw [if_neg (nI_nlt (by omega) hb), Nat.min_eq_left (by omega)]
/-- the common length of two strings -/
theorem tcom_spec (a b : Int32) {la lb : Nat} (ha : la ≤ 32) (hb : lb ≤ 32) : ∃ c, c ≤ la ∧ c ≤ lb ∧ j_t_common a (nI la) b (nI lb) = some (nI c) ∧ (∀ i, i < c → mb a i = mb b i) ∧ (c = la ∨ c = lb ∨ mb a c ≠ mb b c) := by
  obtain ⟨z, hz, ez, h1, h2⟩ := nlz_spec (a ^^^ b)
  refine ⟨min (min la lb) z, by omega, by omega, ?_, fun i hi => ?_, ?_⟩
  · unfold j_t_common
    rw [xmin_eq, ez]
    show (j_x_min _ _).bind _ = _
    rw [xmin_eq]
    show some _ = some _
    rw [nI_min la lb (by omega) (by omega), nI_min _ _ (by omega) (by omega)]
  · have h3 := h1 i (by omega)
    rw [mb_xor] at h3
    revert h3
    cases mb a i <;> cases mb b i <;> simp
  · by_cases hc : z < la ∧ z < lb
    · right; right
      have h3 := h2 (by omega)
      rw [show min (min la lb) z = z by omega]
      rw [mb_xor] at h3
      intro e
      rw [e] at h3
      simp at h3
    · by_cases hd : la ≤ lb
      · left; omega
      · right; left; omega
end
section
-- strings of at most 32 bits, as (bits, length)
abbrev PX : Type := Int32 × Nat
abbrev VP (x : PX) : Prop := Vd x.1 x.2
/-- x is a beginning of y -/
abbrev ple (x y : PX) : Prop := x.2 ≤ y.2 ∧ ∀ i, i < x.2 → mb x.1 i = mb y.1 i
/-- an address begins with x -/
abbrev bg (v : Int32) (x : PX) : Prop := ∀ i, i < x.2 → mb v i = mb x.1 i
/-- y goes on behind x with the bit d -/
abbrev pxt (x : PX) (d : Bool) (y : PX) : Prop := x.2 < y.2 ∧ (∀ i, i < x.2 → mb x.1 i = mb y.1 i) ∧ mb y.1 x.2 = d
theorem ple_rf (x : PX) : ple x x := ⟨Nat.le_refl _, fun _ _ => rfl⟩
theorem ple_tr {x y z : PX} (h1 : ple x y) (h2 : ple y z) : ple x z := ⟨Nat.le_trans h1.1 h2.1, fun i hi => (h1.2 i hi).trans (h2.2 i (Nat.lt_of_lt_of_le hi h1.1))⟩
theorem px_ext {x y : PX} (hx : VP x) (hy : VP y) (h1 : x.2 = y.2) (h2 : ∀ i, i < x.2 → mb x.1 i = mb y.1 i) : x = y := by
  have h3 : x.1 = y.1 := by
    apply mb_ext
    intro i _
    rcases Nat.lt_or_ge i x.2 with h | h
    · exact h2 i h
    · rw [hx.z h, hy.z (by omega)]
  exact Prod.ext h3 h1
theorem ple_as {x y : PX} (hx : VP x) (hy : VP y) (h : ple x y) (h2 : y.2 ≤ x.2) : x = y := px_ext hx hy (Nat.le_antisymm h.1 h2) h.2
theorem ple_cm {x y z : PX} (h1 : ple x z) (h2 : ple y z) (h : x.2 ≤ y.2) : ple x y := ⟨h, fun i hi => (h1.2 i hi).trans (h2.2 i (by omega)).symm⟩
theorem pxt_lt {x y : PX} (h : ple x y) (h2 : x.2 < y.2) : pxt x (mb y.1 x.2) y := ⟨h2, h.2, rfl⟩
theorem pxt_ne {x y : PX} (hx : VP x) (hy : VP y) (h : ple x y) (h2 : x ≠ y) : pxt x (mb y.1 x.2) y := by
  refine pxt_lt h ?_
  rcases Nat.lt_or_ge x.2 y.2 with h3 | h3
  · exact h3
  · exact absurd (ple_as hx hy h h3) h2
theorem pxt_le {x y : PX} {d : Bool} (h : pxt x d y) : ple x y := ⟨Nat.le_of_lt h.1, h.2.1⟩
theorem pxt_tr {x y z : PX} {d : Bool} (h : pxt x d y) (h2 : ple y z) : pxt x d z := ⟨Nat.lt_of_lt_of_le h.1 h2.1, fun i hi => (h.2.1 i hi).trans (h2.2 i (Nat.lt_trans hi h.1)), by rw [← h2.2 _ h.1]; exact h.2.2⟩
theorem ple_pxt {x y z : PX} (h : ple x y) (h1 : x.2 < y.2) (h2 : ple y z) : pxt x (mb y.1 x.2) z := pxt_tr (pxt_lt h h1) h2
theorem pxt_dn {x y z : PX} {d : Bool} (h : pxt x d z) (h2 : ple y z) (h3 : x.2 < y.2) : pxt x d y := ⟨h3, fun i hi => (h.2.1 i hi).trans (h2.2 i (by omega)).symm, by rw [h2.2 _ h3]; exact h.2.2⟩
theorem pxt_un {x y : PX} {d e : Bool} (h : pxt x d y) (h2 : pxt x e y) : d = e := h.2.2.symm.trans h2.2.2
theorem bg_le {v : Int32} {x y : PX} (h : bg v y) (h2 : ple x y) : bg v x := fun i hi => (h i (by omega)).trans (h2.2 i hi).symm
theorem bg_cm {v : Int32} {x y : PX} (h1 : bg v x) (h2 : bg v y) (h : x.2 ≤ y.2) : ple x y := ⟨h, fun i hi => (h1 i hi).symm.trans (h2 i (by omega))⟩
theorem bg_px {v : Int32} {x y : PX} {d : Bool} (h1 : bg v y) (h2 : pxt x d y) : mb v x.2 = d := (h1 _ h2.1).trans h2.2.2
theorem bg_iff {v : Int32} {x : PX} (hx : VP x) : v &&& msk x.2 = x.1 ↔ bg v x := and_msk hx
-- the order of the routes: by bits without sign, then by length
def un (v : Int32) : Nat := v.toBitVec.toNat
abbrev bf (x y : PX) : Prop := un x.1 < un y.1 ∨ (x.1 = y.1 ∧ x.2 < y.2)
theorem un_inj {a b : Int32} (h : un a = un b) : a = b := Int32.toBitVec_inj.mp (BitVec.eq_of_toNat_eq h)
theorem un_tb (v : Int32) (i : Nat) : (un v).testBit i = bt v i := rfl
theorem lt_tb {a b k : Nat} (ha : a.testBit k = false) (hb : b.testBit k = true) (h : ∀ i, k < i → a.testBit i = b.testBit i) : a < b := by
  have e : a / 2 ^ (k + 1) = b / 2 ^ (k + 1) := by
    apply Nat.eq_of_testBit_eq
    intro i
    rw [Nat.testBit_div_two_pow, Nat.testBit_div_two_pow]
    exact h _ (by omega)
  rw [Nat.testBit_eq_decide_div_mod_eq, decide_eq_false_iff_not] at ha
  rw [Nat.testBit_eq_decide_div_mod_eq, decide_eq_true_eq] at hb
  rw [Nat.pow_succ, ← Nat.div_div_eq_div_mul, ← Nat.div_div_eq_div_mul] at e
  have h2 : a / 2 ^ k < b / 2 ^ k := by omega
  exact Nat.lt_of_div_lt_div h2
theorem un_lt {a b : Int32} {j : Nat} (h : ∀ i, i < j → mb a i = mb b i) (ha : mb a j = false) (hb : mb b j = true) : un a < un b := by
  have hj : j < 32 := by
    rcases Nat.lt_or_ge j 32 with h1 | h1
    · exact h1
    · rw [mb_big h1] at hb; cases hb
  rw [mb_lt hj] at ha hb
  refine lt_tb (k := 31 - j) ha hb (fun i hi => ?_)
  rcases Nat.lt_or_ge i 32 with h1 | h1
  · have h2 := h (31 - i) (by omega)
    rw [mb_lt (by omega), mb_lt (by omega), show 31 - (31 - i) = i by omega] at h2
    exact h2
  · rw [un_tb, un_tb, b_big h1, b_big h1]
theorem first_diff {a b : Int32} (h : a ≠ b) : ∃ j, j < 32 ∧ (∀ i, i < j → mb a i = mb b i) ∧ mb a j ≠ mb b j := by
  obtain ⟨j, h1, h2⟩ := pk_least (fun j => j < 32 ∧ mb a j ≠ mb b j) (by
    apply Classical.byContradiction
    intro hc
    apply h
    apply mb_ext
    intro i hi
    apply Classical.byContradiction
    intro hd
    exact hc ⟨i, hi, hd⟩)
  refine ⟨j, h1.1, fun i hi => ?_, h1.2⟩
  apply Classical.byContradiction
  intro hd
  exact h2 i hi ⟨by omega, hd⟩
theorem un_diff {a b : Int32} (h : un a < un b) : ∃ j, j < 32 ∧ (∀ i, i < j → mb a i = mb b i) ∧ mb a j = false ∧ mb b j = true := by
  obtain ⟨j, hj, h1, h2⟩ := first_diff (a := a) (b := b) (fun e => by rw [e] at h; exact Nat.lt_irrefl _ h)
  refine ⟨j, hj, h1, ?_⟩
  cases ha : mb a j <;> cases hb : mb b j
  · exact absurd (ha.trans hb.symm) h2
  · exact ⟨rfl, rfl⟩
  · exact absurd (un_lt (fun i hi => (h1 i hi).symm) hb ha) (by omega)
  · exact absurd (ha.trans hb.symm) h2
theorem bf_ir (x : PX) : ¬ bf x x := fun h => by
  rcases h with h | h
  · exact Nat.lt_irrefl _ h
  · exact Nat.lt_irrefl _ h.2
theorem bf_tr {x y z : PX} (h1 : bf x y) (h2 : bf y z) : bf x z := by
  rcases h1 with h1 | ⟨h1, h3⟩ <;> rcases h2 with h2 | ⟨h2, h4⟩
  · exact Or.inl (by omega)
  · exact Or.inl (by rw [← h2]; exact h1)
  · exact Or.inl (by rw [h1]; exact h2)
  · exact Or.inr ⟨h1.trans h2, by omega⟩
theorem bf_tot {x y : PX} (h : x ≠ y) : bf x y ∨ bf y x := by
  rcases Nat.lt_trichotomy (un x.1) (un y.1) with h1 | h1 | h1
  · exact Or.inl (Or.inl h1)
  · have e := un_inj h1
    rcases Nat.lt_trichotomy x.2 y.2 with h2 | h2 | h2
    · exact Or.inl (Or.inr ⟨e, h2⟩)
    · exact absurd (Prod.ext e h2) h
    · exact Or.inr (Or.inr ⟨e.symm, h2⟩)
  · exact Or.inr (Or.inl h1)
theorem bf_as {x y : PX} (h : bf x y) : ¬ bf y x := fun h2 => bf_ir x (bf_tr h h2)
theorem bf_le {x y : PX} (hx : VP x) (hy : VP y) (h : ple x y) (hne : x ≠ y) : bf x y := by
  by_cases e : x.1 = y.1
  · refine Or.inr ⟨e, ?_⟩
    rcases Nat.lt_or_ge x.2 y.2 with h3 | h3
    · exact h3
    · exact absurd (ple_as hx hy h h3) hne
  · obtain ⟨j, hj, h1, h2⟩ := first_diff e
    have hjx : x.2 ≤ j := by
      rcases Nat.lt_or_ge j x.2 with h3 | h3
      · exact absurd (h.2 j h3) h2
      · exact h3
    have hxj := hx.z hjx
    refine Or.inl (un_lt h1 hxj ?_)
    rw [hxj] at h2
    cases hb : mb y.1 j
    · exact absurd hb.symm h2
    · rfl
theorem bf_px {n x y : PX} (h1 : pxt n false x) (h2 : pxt n true y) : bf x y := Or.inl (un_lt (fun i hi => (h1.2.1 i hi).symm.trans (h2.2.1 i hi)) h1.2.2 h2.2.2)
theorem bf_un {x y : PX} (h : bf x y) : un x.1 ≤ un y.1 := by
  rcases h with h | h
  · omega
  · rw [h.1]; exact Nat.le_refl _
/-- what stands between two strings that begin with n begins with n -/
theorem bf_cv {n x y z : PX} (hz : VP z) (h1 : ple n x) (h2 : ple n y) (h3 : bf x z) (h4 : bf z y) : ple n z := by
  have hag : ∀ i, i < n.2 → mb n.1 i = mb z.1 i := by
    apply Classical.byContradiction
    intro hc
    obtain ⟨j, hj, hl⟩ := pk_least (fun j => j < n.2 ∧ mb n.1 j ≠ mb z.1 j) (by
      apply Classical.byContradiction
      intro hd
      exact hc (fun i hi => Classical.byContradiction (fun q => hd ⟨i, hi, q⟩)))
    have hag : ∀ i, i < j → mb n.1 i = mb z.1 i := fun i hi => Classical.byContradiction (fun q => hl i hi ⟨by omega, q⟩)
    cases hn : mb n.1 j <;> cases hzj : mb z.1 j
    · exact hj.2 (hn.trans hzj.symm)
    · have := un_lt (a := y.1) (b := z.1) (j := j) (fun i hi => (h2.2 i (by omega)).symm.trans (hag i hi)) ((h2.2 j hj.1).symm.trans hn) hzj
      have := bf_un h4
      omega
    · have := un_lt (a := z.1) (b := x.1) (j := j) (fun i hi => (hag i hi).symm.trans (h1.2 i (by omega))) hzj ((h1.2 j hj.1).symm.trans hn)
      have := bf_un h3
      omega
    · exact hj.2 (hn.trans hzj.symm)
  refine ⟨?_, hag⟩
  apply Classical.byContradiction
  intro hlt
  rcases h3 with h3 | ⟨h3, h5⟩
  · obtain ⟨j, hj, hag2, hx, hzj⟩ := un_diff h3
    have hjn : n.2 ≤ j := by
      rcases Nat.lt_or_ge j n.2 with q | q
      · have := (hag j q).symm.trans (h1.2 j q)
        rw [hx, hzj] at this
        cases this
      · exact q
    rw [hz.z (by omega)] at hzj
    cases hzj
  · have := h1.1
    omega
-- the model's comparison
theorem nat_xor31 {a : Nat} (h : a < 4294967296) : a ^^^ 2 ^ 31 = (a + 2147483648) % 4294967296 := by
  have h1 : (a ^^^ 2 ^ 31) % 2 ^ 31 = a % 2 ^ 31 := by rw [Nat.xor_mod_two_pow, Nat.mod_self, Nat.xor_zero]
  have h2 : (a ^^^ 2 ^ 31) / 2 ^ 31 = (a / 2 ^ 31) ^^^ 1 := by rw [Nat.xor_div_two_pow, Nat.div_self (Nat.two_pow_pos 31)]
  have h3 : a / 2 ^ 31 = 0 ∨ a / 2 ^ 31 = 1 := by omega
  generalize a ^^^ 2 ^ 31 = t at h1 h2
  rcases h3 with h3 | h3
  · rw [h3] at h2
    have h2 : t / 2 ^ 31 = 1 := h2
    omega
  · rw [h3] at h2
    have h2 : t / 2 ^ 31 = 0 := h2
    omega
theorem un_b (v : Int32) : un v < 4294967296 := v.toBitVec.isLt
theorem xor_toInt (v : Int32) : (v ^^^ (-2147483648)).toInt = (un v : Int) - 2147483648 := by
  have e : (v ^^^ (-2147483648)).toBitVec.toNat = un v ^^^ 2 ^ 31 := by
    rw [Int32.toBitVec_xor, BitVec.toNat_xor]; rfl
  have hb := un_b v
  rw [nat_xor31 hb] at e
  show (v ^^^ (-2147483648)).toBitVec.toInt = _
  rw [BitVec.toInt_eq_toNat_cond, e]
  split <;> omega
theorem ub_lt (x y : Int32) : (x ^^^ (-2147483648)) < (y ^^^ (-2147483648)) ↔ un x < un y := by
  rw [Int32.lt_iff_toInt_lt, xor_toInt, xor_toInt]
  omega
theorem ub_le (x y : Int32) : (x ^^^ (-2147483648)) ≤ (y ^^^ (-2147483648)) ↔ un x ≤ un y := by
  rw [Int32.le_iff_toInt_le, xor_toInt, xor_toInt]
  omega
theorem ub_eq (x y : Int32) : (x ^^^ (-2147483648)) = (y ^^^ (-2147483648)) ↔ x = y := by
  constructor
  · intro h
    have h2 := congrArg Int32.toInt h
    rw [xor_toInt, xor_toInt] at h2
    exact un_inj (by omega)
  · intro h; rw [h]
end
section
-- THE SHAPE OF A TRIE: P n the string of node n, K d n its child on the side d, U the nodes in use
def Str (P : Nat → PX) (K : Bool → Nat → Option Nat) (U : List Nat) : Prop :=
  U.Nodup ∧ 0 ∈ U ∧ P 0 = (0, 0) ∧ (∀ n, n ∈ U → VP (P n)) ∧ (∀ m, m ∈ U → ∀ n, n ∈ U → P m = P n → m = n) ∧
  (∀ n, n ∈ U → ∀ d, K d n = none → ∀ m, m ∈ U → ¬ pxt (P n) d (P m)) ∧
  (∀ n, n ∈ U → ∀ d c, K d n = some c → c ∈ U ∧ pxt (P n) d (P c) ∧ ∀ m, m ∈ U → pxt (P n) d (P m) → ple (P c) (P m))
section
variable {P : Nat → PX} {K : Bool → Nat → Option Nat} {U : List Nat}
theorem Str.nd (h : Str P K U) : U.Nodup := h.1
theorem Str.z (h : Str P K U) : 0 ∈ U := h.2.1
theorem Str.p0 (h : Str P K U) : P 0 = (0, 0) := h.2.2.1
theorem Str.vp (h : Str P K U) {n : Nat} (hn : n ∈ U) : VP (P n) := h.2.2.2.1 n hn
theorem Str.inj (h : Str P K U) {m n : Nat} (hm : m ∈ U) (hn : n ∈ U) (e : P m = P n) : m = n := h.2.2.2.2.1 m hm n hn e
theorem Str.no (h : Str P K U) {n m : Nat} {d : Bool} (hn : n ∈ U) (hk : K d n = none) (hm : m ∈ U) : ¬ pxt (P n) d (P m) := h.2.2.2.2.2.1 n hn d hk m hm
theorem Str.ch (h : Str P K U) {n c : Nat} {d : Bool} (hn : n ∈ U) (hk : K d n = some c) : c ∈ U ∧ pxt (P n) d (P c) ∧ ∀ m, m ∈ U → pxt (P n) d (P m) → ple (P c) (P m) := h.2.2.2.2.2.2 n hn d c hk
theorem Str.root (h : Str P K U) {x : PX} : ple (P 0) x := by rw [h.p0]; exact ⟨Nat.zero_le _, fun i hi => absurd hi (Nat.not_lt_zero _)⟩
theorem Str.pos (h : Str P K U) {n : Nat} (hn : n ∈ U) (h0 : n ≠ 0) : 0 < (P n).2 := by
  rcases Nat.eq_zero_or_pos (P n).2 with e | e
  · exact absurd (h.inj hn h.z (ple_as (h.vp h.z) (h.vp hn) h.root (by omega)).symm) h0
  · exact e
/-- one step on the way to a node -/
theorem Str.step (h : Str P K U) {n m : Nat} (hn : n ∈ U) (hm : m ∈ U) (hl : ple (P n) (P m)) (hne : n ≠ m) : ∃ c, K (mb (P m).1 (P n).2) n = some c ∧ c ∈ U ∧ ple (P c) (P m) ∧ (P n).2 < (P c).2 := by
  have hx := pxt_ne (h.vp hn) (h.vp hm) hl (fun e => hne (h.inj hn hm e))
  cases hk : K (mb (P m).1 (P n).2) n with
  | none => exact absurd hx (h.no hn hk hm)
  | some c =>
    obtain ⟨h1, h2, h3⟩ := h.ch hn hk
    exact ⟨c, rfl, h1, h3 m hm hx, h2.1⟩
/-- a node has one parent -/
theorem Str.par (h : Str P K U) {q a n : Nat} {f d : Bool} (hq : q ∈ U) (ha : a ∈ U) (h1 : K f q = some n) (h2 : K d a = some n) : q = a ∧ f = d := by
  obtain ⟨n1, x1, m1⟩ := h.ch hq h1
  obtain ⟨n2, x2, m2⟩ := h.ch ha h2
  rcases Nat.lt_trichotomy (P q).2 (P a).2 with l | l | l
  · have := m1 a ha (pxt_dn x1 (pxt_le x2) l)
    have h3 := this.1; have h4 := x2.1
    omega
  · have e : P q = P a := ple_as (h.vp hq) (h.vp ha) (ple_cm (pxt_le x1) (pxt_le x2) (by omega)) (by omega)
    refine ⟨h.inj hq ha e, ?_⟩
    rw [e] at x1
    exact pxt_un x1 x2
  · have := m2 q hq (pxt_dn x2 (pxt_le x1) l)
    have h3 := this.1; have h4 := x1.1
    omega
def upP (P : Nat → PX) (x : Nat) (T : PX) : Nat → PX := fun m => if m = x then T else P m
def clK (K : Bool → Nat → Option Nat) (x : Nat) : Bool → Nat → Option Nat := fun e m => if m = x then none else K e m
def stK (K : Bool → Nat → Option Nat) (d : Bool) (a : Nat) (v : Option Nat) : Bool → Nat → Option Nat := fun e m => if m = a ∧ e = d then v else K e m
theorem upP_s (x : Nat) (T : PX) : upP P x T x = T := if_pos rfl
theorem upP_n {x m : Nat} {T : PX} (h : m ≠ x) : upP P x T m = P m := if_neg h
theorem clK_s (x : Nat) (e : Bool) : clK K x e x = none := if_pos rfl
theorem clK_n {x m : Nat} {e : Bool} (h : m ≠ x) : clK K x e m = K e m := if_neg h
theorem stK_s {d : Bool} {a : Nat} {v : Option Nat} : stK K d a v d a = v := if_pos ⟨rfl, rfl⟩
theorem stK_n {d e : Bool} {a m : Nat} {v : Option Nat} (h : ¬ (m = a ∧ e = d)) : stK K d a v e m = K e m := if_neg h
theorem ne_of_mem {x m : Nat} (hx : x ∉ U) (hm : m ∈ U) : m ≠ x := fun e => hx (e ▸ hm)
/-- a new leaf -/
theorem Str.leaf (h : Str P K U) {x a : Nat} {T : PX} {d : Bool} (hx : x ∉ U) (hT : VP T) (ha : a ∈ U) (hd : pxt (P a) d T) (hk : K d a = none) : Str (upP P x T) (stK (clK K x) d a (some x)) (x :: U) := by
  have hax : a ≠ x := ne_of_mem hx ha
  have old : ∀ {m}, m ∈ U → upP P x T m = P m := fun hm => upP_n (ne_of_mem hx hm)
  have hTn : ∀ m, m ∈ U → ¬ ple T (P m) := fun m hm hle => h.no ha hk hm (pxt_tr hd hle)
  -- a node of the old ones that T goes on from
  have key : ∀ q, q ∈ U → ∀ e, pxt (P q) e T → ¬ (q = a ∧ e = d) → ∃ c, K e q = some c ∧ ple (P c) T := by
    intro q hq e he hne
    rcases Nat.lt_trichotomy (P q).2 (P a).2 with l | l | l
    · have h1 : pxt (P q) e (P a) := pxt_dn he (pxt_le hd) l
      cases hkq : K e q with
      | none => exact absurd h1 (h.no hq hkq ha)
      | some c => exact ⟨c, rfl, ple_tr ((h.ch hq hkq).2.2 a ha h1) (pxt_le hd)⟩
    · have e1 : P q = P a := ple_as (h.vp hq) (h.vp ha) (ple_cm (pxt_le he) (pxt_le hd) (by omega)) (by omega)
      have e2 := h.inj hq ha e1
      subst e2
      exact absurd ⟨rfl, pxt_un he hd⟩ hne
    · exact absurd (pxt_dn hd (pxt_le he) l) (h.no ha hk hq)
  refine ⟨List.nodup_cons.mpr ⟨hx, h.nd⟩, List.mem_cons_of_mem _ h.z, by rw [old h.z]; exact h.p0, fun n hn => ?_, fun m hm n hn e => ?_, fun n hn e hke m hm => ?_, fun n hn e c hke => ?_⟩
  · rw [List.mem_cons] at hn; rcases hn with rfl | hn
    · rw [upP_s]; exact hT
    · rw [old hn]; exact h.vp hn
  · rw [List.mem_cons] at hm hn; rcases hm with rfl | hm <;> rcases hn with rfl | hn
    · rfl
    · rw [upP_s, old hn] at e; exact absurd (e ▸ ple_rf T) (hTn n hn)
    · rw [upP_s, old hm] at e; exact absurd (e ▸ ple_rf T) (hTn m hm)
    · rw [old hm, old hn] at e; exact h.inj hm hn e
  · rw [List.mem_cons] at hn; rcases hn with rfl | hn
    · rw [upP_s]
      rw [List.mem_cons] at hm; rcases hm with rfl | hm
      · rw [upP_s]; exact fun q => absurd q.1 (Nat.lt_irrefl _)
      · rw [old hm]; exact fun q => hTn m hm (pxt_le q)
    · rw [old hn]
      by_cases hc : n = a ∧ e = d
      · rw [hc.1, hc.2, stK_s] at hke; cases hke
      · rw [stK_n hc, clK_n (ne_of_mem hx hn)] at hke
        rw [List.mem_cons] at hm; rcases hm with rfl | hm
        · rw [upP_s]
          intro q
          obtain ⟨c, h1, -⟩ := key n hn e q hc
          rw [hke] at h1; cases h1
        · rw [old hm]; exact h.no hn hke hm
  · rw [List.mem_cons] at hn; rcases hn with rfl | hn
    · rw [stK_n (fun q => hax q.1.symm), clK_s] at hke; cases hke
    · rw [old hn]
      by_cases hc : n = a ∧ e = d
      · obtain ⟨rfl, rfl⟩ := hc
        rw [stK_s] at hke
        cases hke
        rw [upP_s]
        refine ⟨List.mem_cons_self, hd, fun m hm q => ?_⟩
        rw [List.mem_cons] at hm; rcases hm with rfl | hm
        · rw [upP_s]; exact ple_rf T
        · rw [old hm] at q; exact absurd q (h.no ha hk hm)
      · rw [stK_n hc, clK_n (ne_of_mem hx hn)] at hke
        obtain ⟨h1, h2, h3⟩ := h.ch hn hke
        rw [old h1]
        refine ⟨List.mem_cons_of_mem _ h1, h2, fun m hm q => ?_⟩
        rw [List.mem_cons] at hm; rcases hm with rfl | hm
        · rw [upP_s] at q ⊢
          obtain ⟨c', e1, e2⟩ := key n hn e q hc
          rw [hke] at e1; cases e1; exact e2
        · rw [old hm] at q ⊢; exact h3 m hm q
/-- a new node between a and its child n -/
theorem Str.mid (h : Str P K U) {x a n : Nat} {T : PX} {d : Bool} (hx : x ∉ U) (hT : VP T) (ha : a ∈ U) (hd : pxt (P a) d T) (hk : K d a = some n) (hTn : ple T (P n)) (hlt : T.2 < (P n).2) : Str (upP P x T) (stK (stK (clK K x) (mb (P n).1 T.2) x (some n)) d a (some x)) (x :: U) := by
  have hax : a ≠ x := ne_of_mem hx ha
  have old : ∀ {m}, m ∈ U → upP P x T m = P m := fun hm => upP_n (ne_of_mem hx hm)
  obtain ⟨hnU, hdn, hmin⟩ := h.ch ha hk
  have hxt : pxt T (mb (P n).1 T.2) (P n) := pxt_lt hTn hlt
  have hTm : ∀ m, m ∈ U → ple T (P m) → ple (P n) (P m) := fun m hm hle => hmin m hm (pxt_tr hd hle)
  have hTe : ∀ m, m ∈ U → T ≠ P m := fun m hm e => by
    have := hTm m hm (e ▸ ple_rf T)
    have h1 := this.1
    rw [← e] at h1
    omega
  have key : ∀ q, q ∈ U → ∀ e, pxt (P q) e T → ¬ (q = a ∧ e = d) → ∃ c, K e q = some c ∧ ple (P c) T := by
    intro q hq e he hne
    rcases Nat.lt_trichotomy (P q).2 (P a).2 with l | l | l
    · have h1 : pxt (P q) e (P a) := pxt_dn he (pxt_le hd) l
      cases hkq : K e q with
      | none => exact absurd h1 (h.no hq hkq ha)
      | some c => exact ⟨c, rfl, ple_tr ((h.ch hq hkq).2.2 a ha h1) (pxt_le hd)⟩
    · have e1 : P q = P a := ple_as (h.vp hq) (h.vp ha) (ple_cm (pxt_le he) (pxt_le hd) (by omega)) (by omega)
      have e2 := h.inj hq ha e1
      subst e2
      exact absurd ⟨rfl, pxt_un he hd⟩ hne
    · have h1 := hmin q hq (pxt_dn hd (pxt_le he) l)
      have h2 := h1.1; have h3 := he.1
      omega
  refine ⟨List.nodup_cons.mpr ⟨hx, h.nd⟩, List.mem_cons_of_mem _ h.z, by rw [old h.z]; exact h.p0, fun q hq => ?_, fun m hm q hq e => ?_, fun q hq e hke m hm => ?_, fun q hq e c hke => ?_⟩
  · rw [List.mem_cons] at hq; rcases hq with rfl | hq
    · rw [upP_s]; exact hT
    · rw [old hq]; exact h.vp hq
  · rw [List.mem_cons] at hm hq; rcases hm with rfl | hm <;> rcases hq with rfl | hq
    · rfl
    · rw [upP_s, old hq] at e; exact absurd e (hTe q hq)
    · rw [upP_s, old hm] at e; exact absurd e.symm (hTe m hm)
    · rw [old hm, old hq] at e; exact h.inj hm hq e
  · rw [List.mem_cons] at hq; rcases hq with rfl | hq
    · rw [stK_n (fun z => hax z.1.symm)] at hke
      by_cases hc : e = mb (P n).1 T.2
      · rw [hc, stK_s] at hke; cases hke
      · rw [upP_s]
        rw [List.mem_cons] at hm; rcases hm with rfl | hm
        · rw [upP_s]; exact fun z => absurd z.1 (Nat.lt_irrefl _)
        · rw [old hm]
          intro z
          exact hc (pxt_un z (pxt_tr hxt (hTm m hm (pxt_le z))))
    · rw [old hq]
      by_cases hc : q = a ∧ e = d
      · rw [hc.1, hc.2, stK_s] at hke; cases hke
      · rw [stK_n hc, stK_n (fun z => ne_of_mem hx hq z.1), clK_n (ne_of_mem hx hq)] at hke
        rw [List.mem_cons] at hm; rcases hm with rfl | hm
        · rw [upP_s]
          intro z
          obtain ⟨c, h1, -⟩ := key q hq e z hc
          rw [hke] at h1; cases h1
        · rw [old hm]; exact h.no hq hke hm
  · rw [List.mem_cons] at hq; rcases hq with rfl | hq
    · rw [stK_n (fun z => hax z.1.symm)] at hke
      by_cases hc : e = mb (P n).1 T.2
      · rw [hc, stK_s] at hke
        cases hke
        rw [upP_s, old hnU, hc]
        refine ⟨List.mem_cons_of_mem _ hnU, hxt, fun m hm z => ?_⟩
        rw [List.mem_cons] at hm; rcases hm with rfl | hm
        · rw [upP_s] at z; exact absurd z.1 (Nat.lt_irrefl _)
        · rw [old hm] at z ⊢; exact hTm m hm (pxt_le z)
      · rw [stK_n (fun z => hc z.2), clK_s] at hke; cases hke
    · rw [old hq]
      by_cases hc : q = a ∧ e = d
      · obtain ⟨rfl, rfl⟩ := hc
        rw [stK_s] at hke
        cases hke
        rw [upP_s]
        refine ⟨List.mem_cons_self, hd, fun m hm z => ?_⟩
        rw [List.mem_cons] at hm; rcases hm with rfl | hm
        · rw [upP_s]; exact ple_rf T
        · rw [old hm] at z ⊢; exact ple_tr hTn (hmin m hm z)
      · rw [stK_n hc, stK_n (fun z => ne_of_mem hx hq z.1), clK_n (ne_of_mem hx hq)] at hke
        obtain ⟨h1, h2, h3⟩ := h.ch hq hke
        rw [old h1]
        refine ⟨List.mem_cons_of_mem _ h1, h2, fun m hm z => ?_⟩
        rw [List.mem_cons] at hm; rcases hm with rfl | hm
        · rw [upP_s] at z ⊢
          obtain ⟨c', e1, e2⟩ := key q hq e z hc
          rw [hke] at e1; cases e1; exact e2
        · rw [old hm] at z ⊢; exact h3 m hm z
/-- a node with at most one child goes -/
theorem Str.del (h : Str P K U) {a n : Nat} {d e : Bool} (ha : a ∈ U) (hk : K d a = some n) (h0 : n ≠ 0) (he : K e n = none) : Str P (stK K d a (K (!e) n)) (U.erase n) := by
  obtain ⟨hnU, hdn, hmin⟩ := h.ch ha hk
  have mem : ∀ {m}, m ∈ U.erase n → m ∈ U ∧ m ≠ n := fun hm => by
    have := (h.nd.mem_erase_iff).mp hm
    exact ⟨this.2, this.1⟩
  have mem' : ∀ {m}, m ∈ U → m ≠ n → m ∈ U.erase n := fun hm hne => (h.nd.mem_erase_iff).mpr ⟨hne, hm⟩
  -- below a on the side d, but not n: on the other side of n
  have below : ∀ m, m ∈ U → m ≠ n → pxt (P a) d (P m) → pxt (P n) (!e) (P m) := by
    intro m hm hne hx
    have h1 := pxt_ne (h.vp hnU) (h.vp hm) (hmin m hm hx) (fun q => hne (h.inj hnU hm q).symm)
    cases hb : mb (P m).1 (P n).2 <;> rw [hb] at h1
    · cases e
      · exact absurd h1 (h.no hnU he hm)
      · exact h1
    · cases e
      · exact h1
      · exact absurd h1 (h.no hnU he hm)
  refine ⟨h.nd.erase n, mem' h.z (Ne.symm h0), h.p0, fun q hq => h.vp (mem hq).1, fun m hm q hq z => h.inj (mem hm).1 (mem hq).1 z, fun q hq f hkf m hm => ?_, fun q hq f c hkf => ?_⟩
  · by_cases hc : q = a ∧ f = d
    · obtain ⟨rfl, rfl⟩ := hc
      rw [stK_s] at hkf
      intro z
      exact h.no hnU hkf (mem hm).1 (below m (mem hm).1 (mem hm).2 z)
    · rw [stK_n hc] at hkf
      exact h.no (mem hq).1 hkf (mem hm).1
  · by_cases hc : q = a ∧ f = d
    · obtain ⟨rfl, rfl⟩ := hc
      rw [stK_s] at hkf
      obtain ⟨h1, h2, h3⟩ := h.ch hnU hkf
      have hcn : c ≠ n := fun z => by subst z; exact absurd h2.1 (Nat.lt_irrefl _)
      exact ⟨mem' h1 hcn, pxt_tr hdn (pxt_le h2), fun m hm z => h3 m (mem hm).1 (below m (mem hm).1 (mem hm).2 z)⟩
    · rw [stK_n hc] at hkf
      obtain ⟨h1, h2, h3⟩ := h.ch (mem hq).1 hkf
      have hcn : c ≠ n := fun z => by subst z; exact hc (h.par (mem hq).1 ha hkf hk)
      exact ⟨mem' h1 hcn, h2, fun m hm z => h3 m (mem hm).1 z⟩
end
end
section
-- COUNTING
theorem cnt_cg {U : List Nat} {p q : Nat → Bool} (h : ∀ m, m ∈ U → p m = q m) : U.countP p = U.countP q := List.countP_congr (fun m hm => by rw [h m hm])
theorem cnt_or {U : List Nat} {p q r : Nat → Bool} (h : ∀ m, m ∈ U → r m = (p m || q m)) (hd : ∀ m, m ∈ U → p m = true → q m = true → False) : U.countP r = U.countP p + U.countP q := by
  induction U with
  | nil => rfl
  | cons a U ih =>
    have ih := ih (fun m hm => h m (List.mem_cons_of_mem _ hm)) (fun m hm => hd m (List.mem_cons_of_mem _ hm))
    have h1 := h a List.mem_cons_self
    have h2 := hd a List.mem_cons_self
    rw [List.countP_cons, List.countP_cons, List.countP_cons, ih, h1]
    cases hp : p a <;> cases hq : q a
    · simp
    · simp; omega
    · simp; omega
    · exact absurd (h2 hp hq) id
theorem cnt_eq1 {U : List Nat} (hn : U.Nodup) {n : Nat} (hm : n ∈ U) : U.countP (fun m => decide (m = n)) = 1 := by
  induction U with
  | nil => cases hm
  | cons a U ih =>
    rw [List.countP_cons]
    rw [List.nodup_cons] at hn
    rw [List.mem_cons] at hm
    by_cases h : a = n
    · subst h
      have h0 : U.countP (fun m => decide (m = a)) = 0 := by
        rw [List.countP_eq_zero]
        intro m hm2 q
        exact hn.1 (of_decide_eq_true q ▸ hm2)
      rw [h0]; simp
    · rcases hm with hm | hm
      · exact absurd hm.symm h
      · rw [ih hn.2 hm]; simp [h]
theorem cnt_one {U : List Nat} (hn : U.Nodup) {n : Nat} (hm : n ∈ U) {p q : Nat → Bool} (h : ∀ m, m ∈ U → m ≠ n → q m = p m) (hp : p n = false) (hq : q n = true) : U.countP q = U.countP p + 1 := by
  rw [← cnt_eq1 hn hm]
  refine cnt_or (fun m hmU => ?_) (fun m _ h1 h2 => ?_)
  · by_cases e : m = n
    · subst e; simp [hq]
    · rw [h m hmU e]; simp [e]
  · have e := of_decide_eq_true h2
    subst e
    rw [hp] at h1; cases h1
theorem cnt_0 {U : List Nat} {p : Nat → Bool} (h : ∀ m, m ∈ U → p m = false) : U.countP p = 0 := by
  rw [List.countP_eq_zero]
  intro m hm q
  rw [h m hm] at q; cases q
-- NUMBERS OF NODES
theorem cl_nI {n : Nat} (h : n < 1001) : cl (nI n) = n := nI_clamp (by omega)
theorem ok_nI {n N : Nat} (h : n < N) (hN : N < 2 ^ 31) : okb (nI n) N = true := decide_eq_true (nI_in h hN)
theorem m1_nI {n : Nat} (h : n < 2 ^ 31) : ¬ nI n = -1 := by
  intro e
  have h1 := congrArg Int32.toInt e
  rw [nI_toInt h] at h1
  have h2 : (-1 : Int32).toInt = -1 := by decide
  rw [h2] at h1
  omega
theorem gd_ok {α : Type} {b : Bool} {x : Option α} (h : b = true) : gd b x = x := if_pos h
def enc : Option Nat → Int32
  | none => -1
  | some c => nI c
theorem enc_some {c : Nat} {k : Option Nat} (h : enc k = nI c) (hc : c < 2 ^ 31) (hk : ∀ b, k = some b → b < 2 ^ 31) : k = some c := by
  cases k with
  | none => exact absurd h.symm (m1_nI hc)
  | some b => rw [(nI_eq (hk b rfl) hc).mp h]
theorem enc_none {k : Option Nat} (hk : ∀ b, k = some b → b < 2 ^ 31) : enc k = -1 ↔ k = none := by
  cases k with
  | none => exact ⟨fun _ => rfl, fun _ => rfl⟩
  | some b => exact ⟨fun e => absurd e (m1_nI (hk b rfl)), fun e => by cases e⟩
/-- the arrays hold the shape -/
def Rep (S : TS) (P : Nat → PX) (K : Bool → Nat → Option Nat) (U : List Nat) : Prop := ∀ n, n ∈ U → n < 1001 ∧ sB S n = (P n).1 ∧ sL S n = nI (P n).2 ∧ sZ S n = enc (K false n) ∧ sO S n = enc (K true n)
section
variable {S : TS} {P : Nat → PX} {K : Bool → Nat → Option Nat} {U : List Nat}
theorem Rep.lt (h : Rep S P K U) {n : Nat} (hn : n ∈ U) : n < 1001 := (h n hn).1
theorem Rep.kid (h : Rep S P K U) {n : Nat} (hn : n ∈ U) (d : Bool) : (if d = true then sO S n else sZ S n) = enc (K d n) := by
  cases d
  · exact (h n hn).2.2.2.1
  · exact (h n hn).2.2.2.2
theorem child_eq (hR : Rep S P K U) {n : Nat} (hn : n ∈ U) (v : Int32) (hl : (P n).2 < 32) : j_t_child S (nI n) v = some (enc (K (mb v (P n).2) n)) := by
  obtain ⟨h1, h2, h3, h4, h5⟩ := hR n hn
  unfold j_t_child
  rw [gd_ok (ok_nI h1 (by decide)), cl_nI h1, h3, tbit_eq v hl, h4, h5]
  cases mb v (P n).2 <;> rfl
/-- how the way to a string T ends -/
def Fin1 (P : Nat → PX) (U : List Nat) (T : PX) (y : Int32) : Prop := (y = -1 ∧ ∀ m, m ∈ U → ¬ ple T (P m)) ∨ ∃ n, n ∈ U ∧ y = nI n ∧ ¬ (ple (P n) T ∧ (P n).2 < T.2) ∧ ∀ m, m ∈ U → ple T (P m) → ple (P n) (P m)
/-- one look at a node on the way to T -/
theorem look (hS : Str P K U) (hR : Rep S P K U) {T : PX} (hT : VP T) {n : Nat} (hn : n ∈ U) (hlt : (P n).2 < T.2) : ∃ c, j_t_common (sB S n) (sL S n) T.1 (nI T.2) = some (nI c) ∧ c ≤ 32 ∧ (c = (P n).2 ↔ ple (P n) T) := by
  obtain ⟨h1, h2, h3, -⟩ := hR n hn
  obtain ⟨c, a1, a2, a3, a4, a5⟩ := tcom_spec (P n).1 T.1 (hS.vp hn).1 hT.1
  refine ⟨c, by rw [h2, h3]; exact a3, by have := hT.1; omega, ?_⟩
  constructor
  · intro e
    subst e
    exact ⟨Nat.le_of_lt hlt, a4⟩
  · intro h
    rcases a5 with e | e | e
    · exact e
    · omega
    · by_cases hc : c < (P n).2
      · exact absurd (h.2 c hc) e
      · omega
theorem find_loop (hS : Str P K U) (hR : Rep S P K U) {T : PX} (hT : VP T) : ∀ (k n : Nat), n ∈ U → (∀ m, m ∈ U → ple T (P m) → ple (P n) (P m)) → 34 ≤ k + (P n).2 → ∃ y, L_t_find_2 S T.1 (nI T.2) k (nI n) = some y ∧ Fin1 P U T y := by
  intro k
  induction k with
  | zero =>
    intro n hn _ hk
    have := (hS.vp hn).1
    omega
  | succ k ih =>
    intro n hn hall hk
    have hT32 := hT.1
    have hn32 := (hS.vp hn).1
    have h1 := hR.lt hn
    have h3 := (hR n hn).2.2.1
    rw [L_t_find_2]
    rw [if_neg (m1_nI (by omega)), gd_ok (ok_nI h1 (by decide)), cl_nI h1]
    by_cases hlt : (P n).2 < T.2
    · rw [if_neg (by rw [h3]; exact nI_ge hlt (by omega))]
      obtain ⟨c, e1, e2, e3⟩ := look hS hR hT hn hlt
      rw [e1]
      show ∃ y, (if nI c = sL S n then _ else _) = some y ∧ _
      rw [h3]
      by_cases hc : c = (P n).2
      · rw [if_pos (by rw [hc])]
        have hle := e3.mp hc
        rw [child_eq hR hn T.1 (by omega)]
        show ∃ y, L_t_find_2 S T.1 (nI T.2) k (enc (K (mb T.1 (P n).2) n)) = some y ∧ _
        have hxt := pxt_lt hle hlt
        cases hkk : K (mb T.1 (P n).2) n with
        | none =>
          obtain ⟨k', rfl⟩ : ∃ k', k = k' + 1 := ⟨k - 1, by omega⟩
          refine ⟨-1, ?_, Or.inl ⟨rfl, fun m hm hTm => hS.no hn hkk hm (pxt_tr hxt hTm)⟩⟩
          rw [L_t_find_2]
          exact if_pos rfl
        | some c2 =>
          obtain ⟨h5, h6, h7⟩ := hS.ch hn hkk
          exact ih c2 h5 (fun m hm hTm => h7 m hm (pxt_tr hxt hTm)) (by have := h6.1; omega)
      · rw [if_neg (fun q => hc ((nI_eq (by omega) (by omega)).mp q))]
        exact ⟨_, rfl, Or.inr ⟨n, hn, rfl, fun q => hc (e3.mpr q.1), hall⟩⟩
    · rw [if_pos (by rw [h3]; exact nI_le (by omega) (by omega))]
      exact ⟨_, rfl, Or.inr ⟨n, hn, rfl, fun q => hlt q.2, hall⟩⟩
theorem under_find (x1 x2 : Int32) : ∀ (k : Nat) (x : Int32), L_t_under_12 S x1 x2 k x = L_t_find_2 S x1 x2 k x := by
  intro k
  induction k with
  | zero => intro x; rfl
  | succ k ih =>
    intro x
    rw [L_t_under_12, L_t_find_2]
    simp only [ih]
theorem find_root (hS : Str P K U) (hR : Rep S P K U) {T : PX} (hT : VP T) : ∃ y, L_t_find_2 S T.1 (nI T.2) FU 0 = some y ∧ Fin1 P U T y := by
  have h := find_loop hS hR hT FU 0 hS.z (fun m _ _ => hS.root) (by unfold FU; omega)
  rwa [nI_0] at h
/-- find: the node of just a string -/
theorem find_eq (hS : Str P K U) (hR : Rep S P K U) {T : PX} (hT : VP T) : (∃ n, n ∈ U ∧ P n = T ∧ j_t_find S T.1 (nI T.2) = some (nI n)) ∨ ((∀ n, n ∈ U → P n ≠ T) ∧ j_t_find S T.1 (nI T.2) = some (-1)) := by
  obtain ⟨y, e1, h⟩ := find_root hS hR hT
  unfold j_t_find
  rw [e1]
  rcases h with ⟨rfl, h⟩ | ⟨n, hn, rfl, h1, h2⟩
  · right
    refine ⟨fun n hn e => h n hn (e ▸ ple_rf T), ?_⟩
    rw [Option.bind_some, if_pos rfl]
  · have hlt := hR.lt hn
    show (∃ n, _) ∨ (_ ∧ (if nI n = -1 then some (-1) else _) = some (-1))
    show (∃ n', n' ∈ U ∧ P n' = T ∧ (if nI n = -1 then some (-1) else _) = some (nI n')) ∨ _
    rw [if_neg (m1_nI (by omega)), gd_ok (ok_nI hlt (by decide)), cl_nI hlt, (hR n hn).2.1, (hR n hn).2.2.1]
    have hT32 := hT.1
    have hn32 := (hS.vp hn).1
    by_cases e : P n = T
    · left
      refine ⟨n, hn, e, ?_⟩
      rw [e, if_pos rfl, if_pos rfl]
    · right
      refine ⟨fun m hm em => ?_, ?_⟩
      · have h3 := h2 m hm (em ▸ ple_rf T)
        rw [em] at h3
        rcases Nat.lt_or_ge (P n).2 T.2 with l | l
        · exact h1 ⟨h3, l⟩
        · exact e (ple_as (hS.vp hn) hT h3 l)
      · by_cases e2 : (P n).2 = T.2
        · rw [if_pos (by rw [e2]), if_neg (fun q => e (Prod.ext q e2))]
        · rw [if_neg (fun q => e2 ((nI_eq (by omega) (by omega)).mp q))]
/-- the way of 'enter': the last node above T, and its child on T's side -/
theorem enter_loop (hS : Str P K U) (hR : Rep S P K U) {T : PX} (hT : VP T) (h9 : Int32) : ∀ (k a : Nat), a ∈ U → ple (P a) T → (P a).2 < T.2 → 34 ≤ k + (P a).2 → ∃ a', a' ∈ U ∧ ple (P a') T ∧ (P a').2 < T.2 ∧ L_t_enter_11 S T.1 (nI T.2) h9 k (nI a) (enc (K (mb T.1 (P a).2) a)) = some (nI a', enc (K (mb T.1 (P a').2) a')) ∧ ∀ n, K (mb T.1 (P a').2) a' = some n → ¬ (ple (P n) T ∧ (P n).2 < T.2) := by
  intro k
  induction k with
  | zero =>
    intro a ha _ _ hk
    have := (hS.vp ha).1
    omega
  | succ k ih =>
    intro a ha hle hlt hk
    have hT32 := hT.1
    rw [L_t_enter_11]
    cases hkk : K (mb T.1 (P a).2) a with
    | none =>
      refine ⟨a, ha, hle, hlt, ?_, fun n e => by rw [hkk] at e; cases e⟩
      rw [hkk]
      exact if_pos rfl
    | some n =>
      obtain ⟨hn, hx, -⟩ := hS.ch ha hkk
      have h1 := hR.lt hn
      have hn32 := (hS.vp hn).1
      have h3 := (hR n hn).2.2.1
      rw [show enc (some n) = nI n from rfl]
      rw [if_neg (m1_nI (by omega)), gd_ok (ok_nI h1 (by decide)), cl_nI h1]
      by_cases hlt2 : (P n).2 < T.2
      · rw [if_neg (by rw [h3]; exact nI_ge hlt2 (by omega))]
        obtain ⟨c, e1, e2, e3⟩ := look hS hR hT hn hlt2
        rw [e1]
        show ∃ a', a' ∈ U ∧ ple (P a') T ∧ (P a').2 < T.2 ∧ (if nI c = sL S n then _ else _) = some (nI a', enc (K (mb T.1 (P a').2) a')) ∧ _
        rw [h3]
        by_cases hc : c = (P n).2
        · rw [if_pos (by rw [hc])]
          rw [child_eq hR hn T.1 (by omega)]
          exact ih n hn (e3.mp hc) hlt2 (by have := hx.1; omega)
        · rw [if_neg (fun q => hc ((nI_eq (by omega) (by omega)).mp q))]
          refine ⟨a, ha, hle, hlt, by rw [hkk]; rfl, fun n' e => ?_⟩
          rw [hkk] at e; cases e
          exact fun q => hc (e3.mpr q.1)
      · rw [if_pos (by rw [h3]; exact nI_le (by omega) (by omega))]
        refine ⟨a, ha, hle, hlt, by rw [hkk]; rfl, fun n' e => ?_⟩
        rw [hkk] at e; cases e
        exact fun q => hlt2 q.2
/-- settle's way to the parent of n -/
theorem settle_loop (hS : Str P K U) (hR : Rep S P K U) {n : Nat} (hn : n ∈ U) : ∀ (k a : Nat), a ∈ U → ple (P a) (P n) → a ≠ n → 34 ≤ k + (P a).2 → ∃ a' d, a' ∈ U ∧ K d a' = some n ∧ d = mb (P n).1 (P a').2 ∧ L_t_settle_37 S (nI n) k (nI a) = some (nI a') := by
  intro k
  induction k with
  | zero =>
    intro a ha _ _ hk
    have := (hS.vp ha).1
    omega
  | succ k ih =>
    intro a ha hle hne hk
    have hn1 := hR.lt hn
    have hn32 := (hS.vp hn).1
    obtain ⟨c, h1, h2, h3, h4⟩ := hS.step ha hn hle hne
    have hlt : (P a).2 < 32 := by have := h3.1; omega
    rw [L_t_settle_37, gd_ok (ok_nI hn1 (by decide)), cl_nI hn1, (hR n hn).2.1, child_eq hR ha _ hlt, h1]
    show ∃ a' d, a' ∈ U ∧ K d a' = some n ∧ d = mb (P n).1 (P a').2 ∧ (if nI c = nI n then some (nI a) else _) = some (nI a')
    have hc1 := hR.lt h2
    by_cases e : c = n
    · subst e
      rw [if_pos rfl]
      exact ⟨a, _, ha, h1, rfl, rfl⟩
    · rw [if_neg (fun q => e ((nI_eq (by omega) (by omega)).mp q))]
      exact ih c h2 h3 e (by omega)
end
end
section
-- ROUTES: a node whose hop is not -1
def rt (S : TS) (m : Nat) : Bool := decide (¬ sH S m = -1)
theorem rt_t {S : TS} {m : Nat} : rt S m = true ↔ ¬ sH S m = -1 := decide_eq_true_iff
theorem rt_f {S : TS} {m : Nat} : rt S m = false ↔ sH S m = -1 := by
  unfold rt
  rw [decide_eq_false_iff_not]
  exact ⟨fun h => Classical.byContradiction h, fun h q => q h⟩
section
variable {S : TS} {P : Nat → PX} {K : Bool → Nat → Option Nat} {U : List Nat}
/-- the best of the routes that v begins with and that are shorter than t -/
def MJ (S : TS) (P : Nat → PX) (U : List Nat) (v : Int32) (t : Nat) (best : Int32) : Prop := (best = -1 ∧ ∀ m, m ∈ U → rt S m = true → bg v (P m) → t ≤ (P m).2) ∨ ∃ b, b ∈ U ∧ best = nI b ∧ rt S b = true ∧ bg v (P b) ∧ ∀ m, m ∈ U → rt S m = true → bg v (P m) → (P m).2 < t → (P m).2 ≤ (P b).2
def ME (S : TS) (P : Nat → PX) (U : List Nat) (v : Int32) (y : Int32) : Prop := (y = -1 ∧ ∀ m, m ∈ U → rt S m = true → ¬ bg v (P m)) ∨ ∃ b, b ∈ U ∧ y = nI b ∧ rt S b = true ∧ bg v (P b) ∧ ∀ m, m ∈ U → rt S m = true → bg v (P m) → (P m).2 ≤ (P b).2
theorem MJ.fin {v : Int32} {t : Nat} {y : Int32} (h : MJ S P U v t y) (h2 : ∀ m, m ∈ U → bg v (P m) → (P m).2 < t) : ME S P U v y := by
  rcases h with ⟨e, h⟩ | ⟨b, hb, e, h1, h3, h4⟩
  · exact Or.inl ⟨e, fun m hm hr hg => by have := h m hm hr hg; have := h2 m hm hg; omega⟩
  · exact Or.inr ⟨b, hb, e, h1, h3, fun m hm hr hg => h4 m hm hr hg (h2 m hm hg)⟩
/-- where the way of an address stands: all nodes that it begins with are passed (shorter than t) or below x -/
def Wy (P : Nat → PX) (U : List Nat) (v : Int32) (t : Nat) (x : Int32) (k : Nat) : Prop := (x = -1 ∧ 1 ≤ k ∧ ∀ m, m ∈ U → bg v (P m) → (P m).2 < t) ∨ ∃ n, n ∈ U ∧ x = nI n ∧ t ≤ (P n).2 ∧ 34 ≤ k + (P n).2 ∧ ∀ m, m ∈ U → bg v (P m) → (P m).2 < t ∨ ple (P n) (P m)
theorem Wy.same (hS : Str P K U) {v : Int32} {n m : Nat} (hn : n ∈ U) (hm : m ∈ U) (h : ple (P n) (P m)) (hl : (P m).2 < (P n).2 + 1) : m = n := (hS.inj hn hm (ple_as (hS.vp hn) (hS.vp hm) h (by omega))).symm
theorem Wy.next (hS : Str P K U) {v : Int32} {t n k : Nat} (hn : n ∈ U) (ht : t ≤ (P n).2) (hk : 34 ≤ (k + 1) + (P n).2) (hl : (P n).2 < 32) (h : ∀ m, m ∈ U → bg v (P m) → (P m).2 < t ∨ ple (P n) (P m)) : Wy P U v ((P n).2 + 1) (enc (K (mb v (P n).2) n)) k := by
  have below : ∀ m, m ∈ U → bg v (P m) → (P m).2 < (P n).2 + 1 ∨ pxt (P n) (mb v (P n).2) (P m) := by
    intro m hm hg
    rcases h m hm hg with h1 | h1
    · left; omega
    · by_cases e : n = m
      · subst e; left; omega
      · right
        have hx := pxt_ne (hS.vp hn) (hS.vp hm) h1 (fun q => e (hS.inj hn hm q))
        rw [← bg_px hg hx] at hx
        exact hx
  cases hk2 : K (mb v (P n).2) n with
  | none =>
    refine Or.inl ⟨rfl, by omega, fun m hm hg => ?_⟩
    rcases below m hm hg with h1 | h1
    · exact h1
    · exact absurd h1 (hS.no hn hk2 hm)
  | some c =>
    obtain ⟨h1, h2, h3⟩ := hS.ch hn hk2
    refine Or.inr ⟨c, h1, rfl, h2.1, by have := h2.1; omega, fun m hm hg => ?_⟩
    rcases below m hm hg with h4 | h4
    · exact Or.inl h4
    · exact Or.inr (h3 m hm h4)
theorem match_loop (hS : Str P K U) (hR : Rep S P K U) (v : Int32) : ∀ (k t : Nat) (best x : Int32), MJ S P U v t best → Wy P U v t x k → ∃ y, L_t_match_4 S v k best x = some y ∧ ME S P U v y := by
  intro k
  induction k with
  | zero =>
    intro t best x _ hw
    rcases hw with ⟨_, h, _⟩ | ⟨n, hn, _, _, h, _⟩
    · omega
    · have := (hS.vp hn).1; omega
  | succ k ih =>
    intro t best x hj hw
    rw [L_t_match_4]
    rcases hw with ⟨rfl, -, h⟩ | ⟨n, hn, rfl, ht, hk, h⟩
    · rw [if_pos rfl]
      exact ⟨_, rfl, hj.fin h⟩
    · have h1 := hR.lt hn
      have hn32 := (hS.vp hn).1
      rw [if_neg (m1_nI (by omega)), gd_ok (ok_nI h1 (by decide)), cl_nI h1, (hR n hn).2.2.1, (hR n hn).2.1, tmask_eq hn32, Option.bind_some]
      by_cases hg : bg v (P n)
      · rw [if_pos ((bg_iff (hS.vp hn)).mpr hg)]
        have hmm : ∀ m, m ∈ U → bg v (P m) → (P m).2 < (P n).2 + 1 → (P m).2 < t ∨ m = n := by
          intro m hm hgm hl
          rcases h m hm hgm with h4 | h4
          · exact Or.inl h4
          · exact Or.inr (Wy.same hS (v := v) hn hm h4 hl)
        have hj0 : rt S n = false → MJ S P U v ((P n).2 + 1) best := by
          intro hr
          rcases hj with ⟨e, h5⟩ | ⟨b, hb, e, h5, h6, h7⟩
          · refine Or.inl ⟨e, fun m hm hrm hgm => ?_⟩
            apply Classical.byContradiction
            intro hl
            rcases hmm m hm hgm (by omega) with h8 | h8
            · have := h5 m hm hrm hgm; omega
            · subst h8; rw [hr] at hrm; cases hrm
          · refine Or.inr ⟨b, hb, e, h5, h6, fun m hm hrm hgm hl => ?_⟩
            rcases hmm m hm hgm hl with h8 | h8
            · exact h7 m hm hrm hgm h8
            · subst h8; rw [hr] at hrm; cases hrm
        have hj1 : rt S n = true → MJ S P U v ((P n).2 + 1) (nI n) := fun hr => Or.inr ⟨n, hn, rfl, hr, hg, fun m hm hrm hgm hl => by omega⟩
        have hend : ∀ b : Int32, MJ S P U v ((P n).2 + 1) b → (P n).2 = 32 → ∃ y, L_t_match_4 S v k b (-1) = some y ∧ ME S P U v y := by
          intro b hb h32
          refine ih ((P n).2 + 1) b (-1) hb (Or.inl ⟨rfl, by omega, fun m hm _ => ?_⟩)
          have := (hS.vp hm).1; omega
        have hgo : ∀ b : Int32, MJ S P U v ((P n).2 + 1) b → (P n).2 < 32 → ∃ y, (j_t_child S (nI n) v).bind (fun z => L_t_match_4 S v k b z) = some y ∧ ME S P U v y := by
          intro b hb h32
          rw [child_eq hR hn v h32, Option.bind_some]
          exact ih ((P n).2 + 1) b _ hb (Wy.next hS hn ht hk h32 h)
        by_cases hr : sH S n = -1
        · rw [if_pos hr]
          by_cases h32 : (P n).2 = 32
          · rw [if_pos (by rw [h32]; rfl)]
            exact hend best (hj0 (rt_f.mpr hr)) h32
          · rw [if_neg (fun q : nI (P n).2 = 32 => h32 ((nI_eq (b := 32) (by omega) (by omega)).mp q))]
            exact hgo best (hj0 (rt_f.mpr hr)) (by omega)
        · rw [if_neg hr]
          by_cases h32 : (P n).2 = 32
          · rw [if_pos (by rw [h32]; rfl)]
            exact hend (nI n) (hj1 (rt_t.mpr hr)) h32
          · rw [if_neg (fun q : nI (P n).2 = 32 => h32 ((nI_eq (b := 32) (by omega) (by omega)).mp q))]
            exact hgo (nI n) (hj1 (rt_t.mpr hr)) (by omega)
      · rw [if_neg (fun q => hg ((bg_iff (hS.vp hn)).mp q))]
        refine ⟨_, rfl, hj.fin (fun m hm hgm => ?_)⟩
        rcases h m hm hgm with h4 | h4
        · exact h4
        · exact absurd (bg_le hgm h4) hg
theorem match_eq (hS : Str P K U) (hR : Rep S P K U) (v : Int32) : ∃ y, j_t_match S v = some y ∧ ME S P U v y := by
  unfold j_t_match
  refine match_loop hS hR v FU 0 (-1) 0 (Or.inl ⟨rfl, fun m _ _ _ => Nat.zero_le _⟩) (Or.inr ⟨0, hS.z, nI_0.symm, Nat.zero_le _, by unfold FU; omega, fun m _ _ => Or.inr hS.root⟩)
/-- how many nodes an address begins with, shorter than t -/
def dc (P : Nat → PX) (U : List Nat) (v : Int32) (t : Nat) : Nat := U.countP (fun m => decide (bg v (P m)) && decide ((P m).2 < t))
theorem dc_all (hS : Str P K U) {v : Int32} {t : Nat} (h : ∀ m, m ∈ U → bg v (P m) → (P m).2 < t) : dc P U v t = U.countP (fun m => decide (bg v (P m))) := by
  refine cnt_cg (fun m hm => ?_)
  by_cases hg : bg v (P m)
  · rw [decide_eq_true hg, decide_eq_true (h m hm hg)]; rfl
  · rw [decide_eq_false hg]; rfl
theorem depth_loop (hS : Str P K U) (hR : Rep S P K U) (v : Int32) : ∀ (k t : Nat) (x : Int32), Wy P U v t x k → L_t_depth_4 S v k (nI (dc P U v t)) x = some (nI (U.countP (fun m => decide (bg v (P m))))) := by
  intro k
  induction k with
  | zero =>
    intro t x hw
    rcases hw with ⟨_, h, _⟩ | ⟨n, hn, _, _, h, _⟩
    · omega
    · have := (hS.vp hn).1; omega
  | succ k ih =>
    intro t x hw
    rw [L_t_depth_4]
    rcases hw with ⟨rfl, -, h⟩ | ⟨n, hn, rfl, ht, hk, h⟩
    · rw [if_pos rfl, dc_all hS h]
    · have h1 := hR.lt hn
      have hn32 := (hS.vp hn).1
      rw [if_neg (m1_nI (by omega)), gd_ok (ok_nI h1 (by decide)), cl_nI h1, (hR n hn).2.2.1, (hR n hn).2.1, tmask_eq hn32, Option.bind_some]
      by_cases hg : bg v (P n)
      · rw [if_pos ((bg_iff (hS.vp hn)).mpr hg)]
        have hdc : dc P U v ((P n).2 + 1) = dc P U v t + 1 := by
          refine cnt_one hS.nd hn (fun m hm hne => ?_) ?_ ?_
          · by_cases hgm : bg v (P m)
            · rw [decide_eq_true hgm]
              by_cases hlt : (P m).2 < t
              · rw [decide_eq_true hlt, decide_eq_true (by omega)]
              · rw [decide_eq_false hlt, decide_eq_false]
                intro hl
                rcases h m hm hgm with h4 | h4
                · exact hlt h4
                · exact hne (Wy.same hS (v := v) hn hm h4 hl)
            · rw [decide_eq_false hgm]; rfl
          · rw [decide_eq_false (show ¬ (P n).2 < t by omega), Bool.and_false]
          · rw [decide_eq_true hg, decide_eq_true (show (P n).2 < (P n).2 + 1 by omega)]; rfl
        have e1 : nI (dc P U v t) + 1 = nI (dc P U v ((P n).2 + 1)) := by rw [hdc, nI_1]
        rw [e1]
        by_cases h32 : (P n).2 = 32
        · rw [if_pos (by rw [h32]; rfl)]
          refine ih _ _ (Or.inl ⟨rfl, by omega, fun m hm _ => ?_⟩)
          have := (hS.vp hm).1; omega
        · rw [if_neg (fun q : nI (P n).2 = 32 => h32 ((nI_eq (b := 32) (by omega) (by omega)).mp q)), child_eq hR hn v (by omega), Option.bind_some]
          exact ih _ _ (Wy.next hS hn ht hk (by omega) h)
      · rw [if_neg (fun q => hg ((bg_iff (hS.vp hn)).mp q))]
        rw [dc_all hS (fun m hm hgm => ?_)]
        rcases h m hm hgm with h4 | h4
        · exact h4
        · exact absurd (bg_le hgm h4) hg
theorem depth_eq (hS : Str P K U) (hR : Rep S P K U) (v : Int32) : j_t_depth S v = some (nI (U.countP (fun m => decide (bg v (P m))))) := by
  unfold j_t_depth
  have h := depth_loop hS hR v FU 0 0 (Or.inr ⟨0, hS.z, nI_0.symm, Nat.zero_le _, by unfold FU; omega, fun m _ _ => Or.inr hS.root⟩)
  have e : dc P U v 0 = 0 := cnt_0 (fun m _ => by rw [decide_eq_false (Nat.not_lt_zero _), Bool.and_false])
  rw [e, nI_0] at h
  exact h
/-- tell: all nodes on the way to node t get 'x' more -/
theorem tell_loop (hS : Str P K U) {t : Nat} (ht : t ∈ U) (x : Int32) : ∀ (k n : Nat) (S : TS), Rep S P K U → n ∈ U → ple (P n) (P t) → 34 ≤ k + (P n).2 → ∃ S', L_t_tell_3 (P t).1 (nI (P t).2) x k S (nI n) = some S' ∧ sB S' = sB S ∧ sL S' = sL S ∧ sH S' = sH S ∧ sZ S' = sZ S ∧ sO S' = sO S ∧ sF S' = sF S ∧ sU S' = sU S ∧ ∀ m, m ∈ U → sW S' m = if ple (P n) (P m) ∧ ple (P m) (P t) then sW S m + x else sW S m := by
  intro k
  induction k with
  | zero =>
    intro n S _ hn _ hk
    have := (hS.vp hn).1
    omega
  | succ k ih =>
    intro n S hR hn hle hk
    have h1 := hR.lt hn
    have hn32 := (hS.vp hn).1
    have ht32 := (hS.vp ht).1
    rw [L_t_tell_3, gd_ok (ok_nI h1 (by decide)), cl_nI h1, (hR n hn).2.2.1]
    have hW : ∀ m, sW (uW S n (sW S n + x)) m = if m = n then sW S n + x else sW S m := fun m => rfl
    by_cases hlt : (P t).2 ≤ (P n).2
    · rw [if_pos (nI_le hlt (by omega))]
      have e : P n = P t := ple_as (hS.vp hn) (hS.vp ht) hle hlt
      have e2 := hS.inj hn ht e
      subst e2
      refine ⟨_, rfl, rfl, rfl, rfl, rfl, rfl, rfl, rfl, fun m hm => ?_⟩
      rw [hW]
      by_cases hm2 : m = n
      · rw [if_pos hm2, hm2, if_pos ⟨ple_rf _, ple_rf _⟩]
      · rw [if_neg hm2, if_neg]
        intro q
        exact hm2 (hS.inj hm hn (ple_as (hS.vp hm) (hS.vp hn) q.2 q.1.1))
    · rw [if_neg (nI_ge (by omega) (by omega))]
      have hR1 : Rep (uW S n (sW S n + x)) P K U := hR
      rw [child_eq hR1 hn _ (by omega), Option.bind_some]
      have hne : n ≠ t := fun e => by subst e; exact hlt (Nat.le_refl _)
      obtain ⟨c, h3, h4, h5, h6⟩ := hS.step hn ht hle hne
      rw [h3]
      obtain ⟨S', e0, e1, e2, e3, e4, e5, e6, e7, e8⟩ := ih c _ hR1 h4 h5 (by omega)
      refine ⟨S', e0, e1, e2, e3, e4, e5, e6, e7, fun m hm => ?_⟩
      rw [e8 m hm, hW]
      by_cases hmn : m = n
      · subst hmn
        rw [if_neg (fun q => by have := q.1.1; omega), if_pos rfl, if_pos ⟨ple_rf _, hle⟩]
      · rw [if_neg hmn]
        have hxt : pxt (P n) (mb (P t).1 (P n).2) (P t) := pxt_lt hle (by omega)
        by_cases hq : ple (P c) (P m) ∧ ple (P m) (P t)
        · rw [if_pos hq, if_pos ⟨ple_tr (pxt_le (hS.ch hn h3).2.1) hq.1, hq.2⟩]
        · rw [if_neg hq, if_neg]
          intro q
          have hl : (P n).2 < (P m).2 := by
            rcases Nat.lt_or_ge (P n).2 (P m).2 with z | z
            · exact z
            · exact absurd (hS.inj hn hm (ple_as (hS.vp hn) (hS.vp hm) q.1 z)).symm hmn
          exact hq ⟨(hS.ch hn h3).2.2 m hm (pxt_dn hxt q.2 hl), q.2⟩
theorem tell_eq (hS : Str P K U) (hR : Rep S P K U) {t : Nat} (ht : t ∈ U) (x : Int32) : ∃ S', j_t_tell S (P t).1 (nI (P t).2) x = some S' ∧ sB S' = sB S ∧ sL S' = sL S ∧ sH S' = sH S ∧ sZ S' = sZ S ∧ sO S' = sO S ∧ sF S' = sF S ∧ sU S' = sU S ∧ ∀ m, m ∈ U → sW S' m = if ple (P m) (P t) then sW S m + x else sW S m := by
  obtain ⟨S', e0, e1, e2, e3, e4, e5, e6, e7, e8⟩ := tell_loop hS ht x FU 0 S hR hS.z hS.root (by unfold FU; omega)
  rw [nI_0] at e0
  refine ⟨S', e0, e1, e2, e3, e4, e5, e6, e7, fun m hm => ?_⟩
  rw [e8 m hm]
  by_cases h : ple (P m) (P t)
  · rw [if_pos h, if_pos ⟨hS.root, h⟩]
  · rw [if_neg h, if_neg (fun q => h q.2)]
end
end
section
-- COUNTS OF ROUTES: below a string, behind it on one side, before it in the order
def rc (S : TS) (P : Nat → PX) (U : List Nat) (x : PX) : Nat := U.countP (fun m => rt S m && decide (ple x (P m)))
def xc (S : TS) (P : Nat → PX) (U : List Nat) (x : PX) (d : Bool) : Nat := U.countP (fun m => rt S m && decide (pxt x d (P m)))
def bc (S : TS) (P : Nat → PX) (U : List Nat) (x : PX) : Nat := U.countP (fun m => rt S m && decide (bf (P m) x))
section
variable {S : TS} {P : Nat → PX} {K : Bool → Nat → Option Nat} {U : List Nat}
theorem rc_le (x : PX) : rc S P U x ≤ U.length := List.countP_le_length
theorem cnt_at (hn : U.Nodup) {n : Nat} (hm : n ∈ U) : U.countP (fun m => rt S m && decide (m = n)) = (rt S n).toNat := by
  cases h : rt S n
  · refine cnt_0 (fun m _ => ?_)
    by_cases e : m = n
    · subst e; rw [h]; rfl
    · rw [decide_eq_false e, Bool.and_false]
  · rw [show Bool.toNat true = 1 from rfl, ← cnt_eq1 hn hm]
    refine cnt_cg (fun m _ => ?_)
    by_cases e : m = n
    · subst e; rw [h]; rfl
    · rw [decide_eq_false e, Bool.and_false]
theorem rc_dec (hS : Str P K U) {n : Nat} (hn : n ∈ U) : rc S P U (P n) = (rt S n).toNat + xc S P U (P n) false + xc S P U (P n) true := by
  have h1 : rc S P U (P n) = U.countP (fun m => (rt S m && decide (m = n)) || (rt S m && decide (pxt (P n) false (P m)))) + xc S P U (P n) true := by
    refine cnt_or (fun m hm => ?_) (fun m hm a b => ?_)
    · cases rt S m
      · rfl
      · simp only [Bool.true_and]
        by_cases e : m = n
        · subst e
          rw [decide_eq_true (ple_rf _), decide_eq_true (rfl : m = m)]; rfl
        · rw [decide_eq_false e, Bool.false_or]
          by_cases hle : ple (P n) (P m)
          · have hx := pxt_ne (hS.vp hn) (hS.vp hm) hle (fun q => e (hS.inj hn hm q).symm)
            rw [decide_eq_true hle]
            have hb : ∀ b : Bool, pxt (P n) b (P m) → true = (decide (pxt (P n) false (P m)) || decide (pxt (P n) true (P m))) := by
              intro b hb
              cases b
              · rw [decide_eq_true hb]; rfl
              · rw [decide_eq_true hb, Bool.or_true]
            exact hb _ hx
          · rw [decide_eq_false hle, decide_eq_false (fun q => hle (pxt_le q)), decide_eq_false (fun q => hle (pxt_le q))]; rfl
    · simp only [Bool.and_eq_true, Bool.or_eq_true, decide_eq_true_eq] at a b
      rcases a with a | a
      · have := b.2.1
        rw [a.2] at this
        omega
      · exact absurd (pxt_un a.2 b.2) (by decide)
  rw [h1]
  congr 1
  have h2 : U.countP (fun m => (rt S m && decide (m = n)) || (rt S m && decide (pxt (P n) false (P m)))) = U.countP (fun m => rt S m && decide (m = n)) + xc S P U (P n) false := by
    refine cnt_or (fun m hm => rfl) (fun m hm a b => ?_)
    simp only [Bool.and_eq_true, decide_eq_true_eq] at a b
    have := b.2.1
    rw [a.2] at this
    omega
  rw [h2, cnt_at hS.nd hn]
theorem xc_none (hS : Str P K U) {n : Nat} {d : Bool} (hn : n ∈ U) (hk : K d n = none) : xc S P U (P n) d = 0 := by
  refine cnt_0 (fun m hm => ?_)
  rw [decide_eq_false (hS.no hn hk hm), Bool.and_false]
theorem xc_some (hS : Str P K U) {n c : Nat} {d : Bool} (hn : n ∈ U) (hk : K d n = some c) : xc S P U (P n) d = rc S P U (P c) := by
  obtain ⟨h1, h2, h3⟩ := hS.ch hn hk
  refine cnt_cg (fun m hm => ?_)
  congr 1
  by_cases hx : pxt (P n) d (P m)
  · rw [decide_eq_true hx, decide_eq_true (h3 m hm hx)]
  · rw [decide_eq_false hx, decide_eq_false (fun q => hx (pxt_tr h2 q))]
theorem bc_z (hS : Str P K U) {n z : Nat} (hn : n ∈ U) (hk : K false n = some z) : bc S P U (P z) = bc S P U (P n) + (rt S n).toNat := by
  obtain ⟨h1, h2, h3⟩ := hS.ch hn hk
  have hnz : bf (P n) (P z) := bf_le (hS.vp hn) (hS.vp h1) (pxt_le h2) (fun e => by have := h2.1; rw [e] at this; omega)
  rw [← cnt_at hS.nd hn]
  refine cnt_or (fun m hm => ?_) (fun m hm a b => ?_)
  · rw [← Bool.and_or_distrib_left]
    congr 1
    by_cases e : m = n
    · subst e
      rw [decide_eq_true hnz, decide_eq_true (rfl : m = m), Bool.or_true]
    · rw [decide_eq_false e, Bool.or_false]
      by_cases hb : bf (P m) (P n)
      · rw [decide_eq_true hb, decide_eq_true (bf_tr hb hnz)]
      · rw [decide_eq_false hb, decide_eq_false]
        intro hmz
        rcases bf_tot (fun q => e (hS.inj hm hn q)) with q | q
        · exact hb q
        · have hle := bf_cv (hS.vp hm) (ple_rf (P n)) (pxt_le h2) q hmz
          have hx := pxt_ne (hS.vp hn) (hS.vp hm) hle (fun w => e (hS.inj hn hm w).symm)
          cases hbb : mb (P m).1 (P n).2 <;> rw [hbb] at hx
          · have hzm := h3 m hm hx
            by_cases e2 : P z = P m
            · rw [← e2] at hmz; exact bf_ir _ hmz
            · exact bf_as hmz (bf_le (hS.vp h1) (hS.vp hm) hzm e2)
          · exact bf_as hmz (bf_px h2 hx)
  · simp only [Bool.and_eq_true, decide_eq_true_eq] at a b
    rw [b.2] at a
    exact bf_ir _ a.2
theorem bc_o (hS : Str P K U) {n o : Nat} (hn : n ∈ U) (hk : K true n = some o) : bc S P U (P o) = bc S P U (P n) + (rt S n).toNat + xc S P U (P n) false := by
  obtain ⟨h1, h2, h3⟩ := hS.ch hn hk
  have hno : bf (P n) (P o) := bf_le (hS.vp hn) (hS.vp h1) (pxt_le h2) (fun e => by have := h2.1; rw [e] at this; omega)
  have hA : bc S P U (P o) = U.countP (fun m => (rt S m && decide (bf (P m) (P n))) || (rt S m && decide (m = n))) + xc S P U (P n) false := by
    refine cnt_or (fun m hm => ?_) (fun m hm a b => ?_)
    · rw [← Bool.and_or_distrib_left, ← Bool.and_or_distrib_left]
      congr 1
      by_cases e : m = n
      · subst e
        rw [decide_eq_true hno, decide_eq_true (rfl : m = m), Bool.or_true, Bool.true_or]
      · rw [decide_eq_false e, Bool.or_false]
        by_cases hb : bf (P m) (P n)
        · rw [decide_eq_true hb, decide_eq_true (bf_tr hb hno), Bool.true_or]
        · rw [decide_eq_false hb, Bool.false_or]
          by_cases hx : pxt (P n) false (P m)
          · rw [decide_eq_true hx, decide_eq_true (bf_px hx h2)]
          · rw [decide_eq_false hx, decide_eq_false]
            intro hmo
            rcases bf_tot (fun q => e (hS.inj hm hn q)) with q | q
            · exact hb q
            · have hle := bf_cv (hS.vp hm) (ple_rf (P n)) (pxt_le h2) q hmo
              have hx2 := pxt_ne (hS.vp hn) (hS.vp hm) hle (fun w => e (hS.inj hn hm w).symm)
              cases hbb : mb (P m).1 (P n).2 <;> rw [hbb] at hx2
              · exact hx hx2
              · have hom := h3 m hm hx2
                by_cases e2 : P o = P m
                · rw [← e2] at hmo; exact bf_ir _ hmo
                · exact bf_as hmo (bf_le (hS.vp h1) (hS.vp hm) hom e2)
    · simp only [Bool.and_eq_true, Bool.or_eq_true, decide_eq_true_eq] at a b
      have hnm := bf_le (hS.vp hn) (hS.vp hm) (pxt_le b.2) (fun e => by have := b.2.1; rw [e] at this; omega)
      rcases a with a | a
      · exact bf_as a.2 hnm
      · rw [a.2] at hnm; exact bf_ir _ hnm
  rw [hA]
  congr 1
  rw [← cnt_at hS.nd hn]
  refine cnt_or (fun m hm => rfl) (fun m hm a b => ?_)
  simp only [Bool.and_eq_true, decide_eq_true_eq] at a b
  rw [b.2] at a
  exact bf_ir _ a.2
theorem bc_root (hS : Str P K U) : bc S P U (P 0) = 0 := by
  refine cnt_0 (fun m hm => ?_)
  rw [decide_eq_false, Bool.and_false]
  intro h
  by_cases e : P 0 = P m
  · rw [← e] at h; exact bf_ir _ h
  · exact bf_as h (bf_le (hS.vp hS.z) (hS.vp hm) hS.root e)
/-- the counts in the arrays -/
def Cnt (S : TS) (P : Nat → PX) (U : List Nat) : Prop := ∀ n, n ∈ U → sW S n = nI (rc S P U (P n))
theorem route_loop (hS : Str P K U) (hR : Rep S P K U) (hC : Cnt S P U) (hlen : U.length ≤ 1001) (x1 x2 : Int32) : ∀ (k n j : Nat), n ∈ U → j < rc S P U (P n) → 34 ≤ k + (P n).2 → ∃ e n', n' ∈ U ∧ rt S n' = true ∧ L_t_route_21 S x1 x2 k (nI j) (nI n) = some (e, nI n') ∧ bc S P U (P n') = bc S P U (P n) + j := by
  intro k
  induction k with
  | zero =>
    intro n j hn _ hk
    have := (hS.vp hn).1
    omega
  | succ k ih =>
    intro n j hn hj hk
    have h1 := hR.lt hn
    have hdec := rc_dec (S := S) hS hn
    have hb1 : ∀ x : PX, rc S P U x ≤ 1001 := fun x => Nat.le_trans (rc_le x) hlen
    obtain ⟨-, -, -, hZ, hO⟩ := hR n hn
    have goO : ∀ j', j' < xc S P U (P n) true → ∃ e n', n' ∈ U ∧ rt S n' = true ∧ L_t_route_21 S x1 x2 k (nI j') (sO S n) = some (e, nI n') ∧ bc S P U (P n') = bc S P U (P n) + (rt S n).toNat + xc S P U (P n) false + j' := by
      intro j' hj'
      cases hk1 : K true n with
      | none => rw [xc_none hS hn hk1] at hj'; omega
      | some o =>
        rw [xc_some hS hn hk1] at hj'
        obtain ⟨h5, h6, -⟩ := hS.ch hn hk1
        obtain ⟨e, n', a1, a2, a3, a4⟩ := ih o j' h5 hj' (by have := h6.1; omega)
        refine ⟨e, n', a1, a2, by rw [hO, hk1]; exact a3, ?_⟩
        rw [a4, bc_o hS hn hk1]
    have stp : ∀ j', j' < xc S P U (P n) false + xc S P U (P n) true → ∃ e n', n' ∈ U ∧ rt S n' = true ∧ (if sZ S n = (-1) then if nI j' < 0 then L_t_route_21 S x1 x2 k (nI j') (sZ S n) else L_t_route_21 S x1 x2 k (nI j' - 0) (sO S n) else gd (okb (sZ S n) 1001) (if nI j' < (sW S (cl (sZ S n))) then L_t_route_21 S x1 x2 k (nI j') (sZ S n) else L_t_route_21 S x1 x2 k (nI j' - (sW S (cl (sZ S n)))) (sO S n))) = some (e, nI n') ∧ bc S P U (P n') = bc S P U (P n) + (rt S n).toNat + j' := by
      intro j' hj'
      cases hk0 : K false n with
      | none =>
        rw [xc_none hS hn hk0] at hj'
        obtain ⟨e, n', a1, a2, a3, a4⟩ := goO j' (by omega)
        rw [xc_none hS hn hk0] at a4
        refine ⟨e, n', a1, a2, ?_, by omega⟩
        have hz : sZ S n = -1 := by rw [hZ, hk0]; rfl
        have := hb1 (P n)
        rw [if_pos hz, if_neg (nI_pos (by omega)), Int32.sub_zero]
        exact a3
      | some z =>
        obtain ⟨h5, h6, -⟩ := hS.ch hn hk0
        have hz1 := hR.lt h5
        have hz : sZ S n = nI z := by rw [hZ, hk0]; rfl
        have hxz := xc_some (S := S) hS hn hk0
        have b1 := hb1 (P n)
        have b2 := hb1 (P z)
        rw [hz, if_neg (m1_nI (by omega)), gd_ok (ok_nI hz1 (by decide)), cl_nI hz1, hC z h5]
        by_cases hlt : j' < rc S P U (P z)
        · rw [if_pos (nI_lt hlt (by omega))]
          obtain ⟨e, n', a1, a2, a3, a4⟩ := ih z j' h5 hlt (by have := h6.1; omega)
          refine ⟨e, n', a1, a2, a3, ?_⟩
          rw [a4, bc_z hS hn hk0]
        · rw [if_neg (nI_nlt (by omega) (by omega)), pk_sub (by omega)]
          obtain ⟨e, n', a1, a2, a3, a4⟩ := goO (j' - rc S P U (P z)) (by omega)
          exact ⟨e, n', a1, a2, a3, by omega⟩
    have b1 := hb1 (P n)
    rw [L_t_route_21, gd_ok (ok_nI h1 (by decide)), cl_nI h1]
    by_cases hr : sH S n = -1
    · rw [if_pos hr]
      have hrf := rt_f.mpr hr
      rw [hrf] at hdec stp
      obtain ⟨e, n', a1, a2, a3, a4⟩ := stp j (by simp only [Bool.toNat_false] at hdec; omega)
      exact ⟨e, n', a1, a2, a3, by simp only [Bool.toNat_false] at a4; omega⟩
    · rw [if_neg hr]
      have hrt := rt_t.mpr hr
      rw [hrt] at hdec stp
      simp only [Bool.toNat_true] at hdec stp
      by_cases h0 : j = 0
      · subst h0
        rw [if_pos (by rw [nI_0]; exact Int32.le_refl _)]
        exact ⟨_, n, hn, hrt, rfl, rfl⟩
      · rw [if_neg (nI_nle (by omega) (by omega)), sb_m1 (by omega)]
        obtain ⟨e, n', a1, a2, a3, a4⟩ := stp (j - 1) (by omega)
        exact ⟨e, n', a1, a2, a3, by omega⟩
/-- route: the k-th route in the order -/
theorem route_eq (hS : Str P K U) (hR : Rep S P K U) (hC : Cnt S P U) (hlen : U.length ≤ 1001) (x2 : Int32) {j : Nat} (hj : j < rc S P U (P 0)) : ∃ n, n ∈ U ∧ rt S n = true ∧ bc S P U (P n) = j ∧ j_t_route S (nI j) x2 = some (if x2 = 0 then (P n).1 else if x2 = 1 then nI (P n).2 else if x2 = 2 then sH S n else 0) := by
  have hb := Nat.le_trans (rc_le (S := S) (P := P) (U := U) (P 0)) hlen
  obtain ⟨e, n, a1, a2, a3, a4⟩ := route_loop hS hR hC hlen (nI j) x2 FU 0 j hS.z hj (by unfold FU; omega)
  rw [nI_0] at a3
  rw [bc_root hS, Nat.zero_add] at a4
  refine ⟨n, a1, a2, a4, ?_⟩
  have h1 := hR.lt a1
  unfold j_t_route
  rw [if_neg (nI_pos (by omega)), gd_ok (by decide), show cl 0 = 0 from by decide, hC 0 hS.z, if_pos (nI_lt hj (by omega)), a3, Option.bind_some]
  show (if x2 = 0 then gd (okb (nI n) 1001) (some (sB S (cl (nI n)))) else if x2 = 1 then gd (okb (nI n) 1001) (some (sL S (cl (nI n)))) else if x2 = 2 then gd (okb (nI n) 1001) (some (sH S (cl (nI n)))) else some 0) = _
  rw [gd_ok (ok_nI h1 (by decide)), gd_ok (ok_nI h1 (by decide)), gd_ok (ok_nI h1 (by decide)), cl_nI h1, (hR n a1).2.1, (hR n a1).2.2.1]
  split
  · rfl
  · split
    · rfl
    · split <;> rfl
theorem route_out (hS : Str P K U) (hC : Cnt S P U) (x1 x2 : Int32) (h : x1 < 0 ∨ ¬ x1 < nI (rc S P U (P 0))) : j_t_route S x1 x2 = some 0 := by
  unfold j_t_route
  by_cases h0 : x1 < 0
  · rw [if_pos h0]
  · rw [if_neg h0, gd_ok (by decide), show cl 0 = 0 from by decide, hC 0 hS.z, if_neg (h.resolve_left h0)]
theorem count_eq (hS : Str P K U) (hC : Cnt S P U) : j_t_count S = some (nI (rc S P U (P 0))) := by
  unfold j_t_count
  rw [gd_ok (by decide), show cl 0 = 0 from by decide, hC 0 hS.z]
/-- under: how many routes begin with a string -/
theorem under_eq (hS : Str P K U) (hR : Rep S P K U) (hC : Cnt S P U) {T : PX} (hT : VP T) (hp : j_t_isPrefix T.1 (nI T.2) = some 1) : j_t_under S T.1 (nI T.2) = some (nI (rc S P U T)) := by
  obtain ⟨y, e1, h⟩ := find_root hS hR hT
  unfold j_t_under
  rw [hp, Option.bind_some, if_neg (by decide), under_find, e1, Option.bind_some]
  have hT32 := hT.1
  rcases h with ⟨rfl, h⟩ | ⟨n, hn, rfl, h1, h2⟩
  · rw [if_pos rfl]
    have : rc S P U T = 0 := cnt_0 (fun m hm => by rw [decide_eq_false (h m hm), Bool.and_false])
    rw [this, nI_0]
  · have hlt := hR.lt hn
    have hn32 := (hS.vp hn).1
    rw [if_neg (m1_nI (by omega)), gd_ok (ok_nI hlt (by decide)), cl_nI hlt, (hR n hn).2.1, (hR n hn).2.2.1]
    have zero : ¬ ple T (P n) → nI (rc S P U T) = 0 := by
      intro hno
      have : rc S P U T = 0 := cnt_0 (fun m hm => by
        rw [decide_eq_false, Bool.and_false]
        intro hTm
        have hnm := h2 m hm hTm
        rcases Nat.lt_or_ge (P n).2 T.2 with l | l
        · exact h1 ⟨ple_cm hnm hTm (by omega), l⟩
        · exact hno (ple_cm hTm hnm l))
      rw [this, nI_0]
    by_cases hl : (P n).2 < T.2
    · rw [if_pos (nI_lt hl (by omega)), zero (fun q => by have := q.1; omega)]
    · rw [if_neg (nI_nlt (by omega) (by omega)), tmask_eq hT32, Option.bind_some]
      by_cases hle : ple T (P n)
      · rw [if_pos ((and_msk hT).mpr (fun i hi => (hle.2 i hi).symm)), hC n hn]
        congr 2
        refine cnt_cg (fun m hm => ?_)
        congr 1
        by_cases q : ple T (P m)
        · rw [decide_eq_true q, decide_eq_true (h2 m hm q)]
        · rw [decide_eq_false q, decide_eq_false (fun w => q (ple_tr hle w))]
      · rw [if_neg (fun q => hle ⟨by omega, fun i hi => ((and_msk hT).mp q i hi).symm⟩), zero hle]
end
end
section
-- THE FREE NODES
def fl (z : Nat → Int32) : Int32 → List Nat → Prop
  | f, [] => f = -1
  | f, x :: r => f = nI x ∧ x < 1001 ∧ fl z (z x) r
theorem fl_cg {z z' : Nat → Int32} : ∀ (F : List Nat) (f : Int32), (∀ x, x ∈ F → z' x = z x) → fl z f F → fl z' f F
  | [], _, _, h => h
  | x :: r, f, hz, h => ⟨h.1, h.2.1, by
      have h2 := fl_cg r (z x) (fun y hy => hz y (List.mem_cons_of_mem _ hy)) h.2.2
      rw [hz x List.mem_cons_self]; exact h2⟩
def Fre (S : TS) (U F : List Nat) : Prop := fl (sZ S) (sF S) F ∧ F.Nodup ∧ (∀ x, x ∈ F → x ∉ U) ∧ U.length + F.length = 1001 ∧ sU S = nI U.length
def Hop (S : TS) (U : List Nat) : Prop := ∀ n, n ∈ U → sH S n = -1 ∨ 0 ≤ sH S n
def Par (S : TS) (K : Bool → Nat → Option Nat) (U : List Nat) : Prop := ∀ n, n ∈ U → n ≠ 0 → rt S n = false → K false n ≠ none ∧ K true n ≠ none
def RL (S : TS) (P : Nat → PX) (U : List Nat) : List (PX × Int32) := (U.filter (rt S)).map (fun n => (P n, sH S n))
def TI (S : TS) (P : Nat → PX) (K : Bool → Nat → Option Nat) (U F : List Nat) : Prop := Str P K U ∧ Rep S P K U ∧ Fre S U F ∧ Hop S U ∧ Par S K U ∧ Cnt S P U
theorem upd_s (f : Nat → Int32) (k : Nat) (x : Int32) : upd f k x k = x := if_pos rfl
theorem upd_n (f : Nat → Int32) {k j : Nat} (x : Int32) (h : j ≠ k) : upd f k x j = f j := if_neg h
/-- a node is made -/
theorem make_eq {S : TS} {U F : List Nat} {x : Nat} (h : Fre S U (x :: F)) (p l h9 : Int32) : ∃ S', j_t_make S p l h9 = some (nI x, S') ∧ x < 1001 ∧ x ∉ U ∧ sB S' = upd (sB S) x p ∧ sL S' = upd (sL S) x l ∧ sH S' = upd (sH S) x h9 ∧ sZ S' = upd (sZ S) x (-1) ∧ sO S' = upd (sO S) x (-1) ∧ sW S' = upd (sW S) x 0 ∧ Fre S' (x :: U) F := by
  obtain ⟨⟨h1, h2, h3⟩, h4, h5, h6, h7⟩ := h
  rw [List.nodup_cons] at h4
  unfold j_t_make
  rw [h1, gd_ok (ok_nI h2 (by decide)), cl_nI h2]
  refine ⟨_, rfl, h2, h5 x List.mem_cons_self, rfl, rfl, rfl, rfl, rfl, rfl, ?_, h4.2, fun y hy hyU => ?_, ?_, ?_⟩
  · show fl (upd (sZ S) x (-1)) (sZ S x) F
    exact fl_cg F _ (fun y hy => upd_n _ _ (fun e => h4.1 (e ▸ hy))) h3
  · rw [List.mem_cons] at hyU
    rcases hyU with e | e
    · exact h4.1 (e ▸ hy)
    · exact h5 y (List.mem_cons_of_mem _ hy) e
  · rw [List.length_cons] at h6 ⊢; omega
  · show sU S + 1 = _
    rw [h7, nI_1, List.length_cons]
def hangS (S : TS) (a : Nat) (d : Bool) (c : Int32) : TS := if d = true then uO S a c else uZ S a c
theorem hang_eq {S : TS} {a la : Nat} (ha : a < 1001) (hl : sL S a = nI la) (hla : la < 32) (c v : Int32) : j_t_hang S (nI a) c v = some (hangS S a (mb v la) c) := by
  unfold j_t_hang hangS
  rw [gd_ok (ok_nI ha (by decide)), cl_nI ha, hl, tbit_eq v hla, Option.bind_some]
  cases mb v la <;> rfl
theorem hang_B (S : TS) (a : Nat) (d : Bool) (c : Int32) : sB (hangS S a d c) = sB S := by cases d <;> rfl
theorem hang_L (S : TS) (a : Nat) (d : Bool) (c : Int32) : sL (hangS S a d c) = sL S := by cases d <;> rfl
theorem hang_H (S : TS) (a : Nat) (d : Bool) (c : Int32) : sH (hangS S a d c) = sH S := by cases d <;> rfl
theorem hang_W (S : TS) (a : Nat) (d : Bool) (c : Int32) : sW (hangS S a d c) = sW S := by cases d <;> rfl
theorem hang_F (S : TS) (a : Nat) (d : Bool) (c : Int32) : sF (hangS S a d c) = sF S := by cases d <;> rfl
theorem hang_U (S : TS) (a : Nat) (d : Bool) (c : Int32) : sU (hangS S a d c) = sU S := by cases d <;> rfl
theorem hang_Z (S : TS) (a : Nat) (d : Bool) (c : Int32) (n : Nat) (h : n ≠ a) : sZ (hangS S a d c) n = sZ S n := by
  cases d
  · exact upd_n _ _ h
  · rfl
section
variable {S : TS} {P : Nat → PX} {K : Bool → Nat → Option Nat} {U F : List Nat}
theorem Rep.hang (h : Rep S P K U) {a : Nat} (d : Bool) (v : Option Nat) : Rep (hangS S a d (enc v)) P (stK K d a v) U := by
  intro n hn
  obtain ⟨h1, h2, h3, h4, h5⟩ := h n hn
  refine ⟨h1, by rw [hang_B]; exact h2, by rw [hang_L]; exact h3, ?_, ?_⟩
  · by_cases e : n = a
    · subst e
      cases d
      · rw [stK_s]; exact upd_s _ _ _
      · rw [stK_n (fun q => by cases q.2)]; exact h4
    · rw [stK_n (fun q => e q.1), hang_Z _ _ _ _ _ e]; exact h4
  · by_cases e : n = a
    · subst e
      cases d
      · rw [stK_n (fun q => by cases q.2)]; exact h5
      · rw [stK_s]; exact upd_s _ _ _
    · rw [stK_n (fun q => e q.1)]
      cases d
      · exact h5
      · exact (upd_n _ _ e).trans h5
theorem Rep.make (h : Rep S P K U) {S' : TS} {x : Nat} {T : PX} (hx : x ∉ U) (hx1 : x < 1001) (hB : sB S' = upd (sB S) x T.1) (hL : sL S' = upd (sL S) x (nI T.2)) (hZ : sZ S' = upd (sZ S) x (-1)) (hO : sO S' = upd (sO S) x (-1)) : Rep S' (upP P x T) (clK K x) (x :: U) := by
  intro n hn
  rw [List.mem_cons] at hn
  by_cases e : n = x
  · subst e
    refine ⟨hx1, ?_, ?_, ?_, ?_⟩
    · rw [hB, upd_s, upP_s]
    · rw [hL, upd_s, upP_s]
    · rw [hZ, upd_s, clK_s]; rfl
    · rw [hO, upd_s, clK_s]; rfl
  · obtain ⟨h1, h2, h3, h4, h5⟩ := h n (hn.resolve_left e)
    refine ⟨h1, ?_, ?_, ?_, ?_⟩
    · rw [hB, upd_n _ _ e, upP_n e]; exact h2
    · rw [hL, upd_n _ _ e, upP_n e]; exact h3
    · rw [hZ, upd_n _ _ e, clK_n e]; exact h4
    · rw [hO, upd_n _ _ e, clK_n e]; exact h5
theorem Fre.hang (h : Fre S U F) {a : Nat} (d : Bool) (c : Int32) (ha : a ∈ U) : Fre (hangS S a d c) U F := by
  obtain ⟨h1, h2, h3, h4, h5⟩ := h
  refine ⟨?_, h2, h3, h4, by rw [hang_U]; exact h5⟩
  rw [hang_F]
  exact fl_cg F _ (fun y hy => hang_Z _ _ _ _ _ (fun e => h3 y hy (e ▸ ha))) h1
theorem Fre.cg {S' : TS} (h : Fre S U F) (hZ : sZ S' = sZ S) (hF : sF S' = sF S) (hU : sU S' = sU S) : Fre S' U F := by
  obtain ⟨h1, h2, h3, h4, h5⟩ := h
  exact ⟨by rw [hZ, hF]; exact h1, h2, h3, h4, by rw [hU]; exact h5⟩
theorem Rep.cg {S' : TS} (h : Rep S P K U) (hB : sB S' = sB S) (hL : sL S' = sL S) (hZ : sZ S' = sZ S) (hO : sO S' = sO S) : Rep S' P K U := by
  intro n hn
  obtain ⟨h1, h2, h3, h4, h5⟩ := h n hn
  exact ⟨h1, by rw [hB]; exact h2, by rw [hL]; exact h3, by rw [hZ]; exact h4, by rw [hO]; exact h5⟩
/-- a node is dropped -/
theorem drop_eq {n : Nat} (h : Fre S U F) (hn : U.Nodup) (hm : n ∈ U) (hlt : n < 1001) : ∃ S', j_t_drop S (nI n) = some S' ∧ sB S' = sB S ∧ sL S' = sL S ∧ sH S' = sH S ∧ sO S' = sO S ∧ sW S' = sW S ∧ sZ S' = upd (sZ S) n (sF S) ∧ Fre S' (U.erase n) (n :: F) := by
  obtain ⟨h1, h2, h3, h4, h5⟩ := h
  unfold j_t_drop
  rw [gd_ok (ok_nI hlt (by decide)), cl_nI hlt]
  have hnF : n ∉ F := fun q => h3 n q hm
  have hpos : 0 < U.length := List.length_pos_of_mem hm
  refine ⟨_, rfl, rfl, rfl, rfl, rfl, rfl, rfl, ⟨rfl, hlt, ?_⟩, List.nodup_cons.mpr ⟨hnF, h2⟩, fun x hx hxU => ?_, ?_, ?_⟩
  · show fl (upd (sZ S) n (sF S)) (upd (sZ S) n (sF S) n) F
    rw [upd_s]
    exact fl_cg F _ (fun y hy => upd_n _ _ (fun e => hnF (e ▸ hy))) h1
  · rw [hn.mem_erase_iff] at hxU
    rw [List.mem_cons] at hx
    rcases hx with e | e
    · exact hxU.1 e
    · exact h3 x e hxU.2
  · rw [List.length_erase_of_mem hm, List.length_cons]; omega
  · show sU S - 1 = _
    rw [h5, List.length_erase_of_mem hm]
    obtain ⟨m, e⟩ : ∃ m, U.length = m + 1 := ⟨U.length - 1, by omega⟩
    rw [e, nI_pred]; rfl
theorem cnt_erase {p : Nat → Bool} {n : Nat} (hp : p n = false) : ∀ U : List Nat, (U.erase n).countP p = U.countP p
  | [] => rfl
  | a :: U => by
    rw [List.erase_cons]
    by_cases e : a = n
    · subst e
      rw [if_pos (by simp), List.countP_cons, hp]; simp
    · rw [if_neg (by simpa using e), List.countP_cons, List.countP_cons, cnt_erase hp U]
theorem flt_erase {p : Nat → Bool} {n : Nat} (hp : p n = false) : ∀ U : List Nat, (U.erase n).filter p = U.filter p
  | [] => rfl
  | a :: U => by
    rw [List.erase_cons]
    by_cases e : a = n
    · subst e
      rw [if_pos (by simp), List.filter_cons, hp]; simp
    · rw [if_neg (by simpa using e), List.filter_cons, List.filter_cons, flt_erase hp U]
theorem rt_cg {S S' : TS} (h : sH S' = sH S) : rt S' = rt S := by funext m; unfold rt; rw [h]
theorem RL_cg {S' : TS} (h : sH S' = sH S) : RL S' P U = RL S P U := by unfold RL; rw [rt_cg h, h]
theorem rc_cg {S' : TS} (h : sH S' = sH S) (q : PX) : rc S' P U q = rc S P U q := by unfold rc; rw [rt_cg h]
/-- settle: a node that is no route and parts nothing goes, and so on up -/
theorem settle_eq : ∀ (k : Nat) (S : TS) (K : Bool → Nat → Option Nat) (U F : List Nat) (n : Nat), Str P K U → Rep S P K U → Fre S U F → Hop S U → Cnt S P U → (∀ m, m ∈ U → m ≠ 0 → m ≠ n → rt S m = false → K false m ≠ none ∧ K true m ≠ none) → n ∈ U → (P n).2 < k →
    ∃ S' K' U' F', j_t_settle k S (nI n) = some S' ∧ TI S' P K' U' F' ∧ RL S' P U' = RL S P U := by
  intro k
  induction k with
  | zero => intro S K U F n _ _ _ _ _ _ _ h; omega
  | succ k ih =>
    intro S K U F n hS hR hF hH hC hP hn hk
    have hn1 := hR.lt hn
    obtain ⟨-, hB, hL, hZ, hO⟩ := hR n hn
    have kid : ∀ (d : Bool) (b : Nat), K d n = some b → b < 2 ^ 31 := fun d b e => by have := hR.lt (hS.ch hn e).1; omega
    have keep : (n ≠ 0 → rt S n = false → K false n ≠ none ∧ K true n ≠ none) → ∃ S' K' U' F', some S = some S' ∧ TI S' P K' U' F' ∧ RL S' P U' = RL S P U := by
      intro h
      refine ⟨S, K, U, F, rfl, ⟨hS, hR, hF, hH, fun m hm h0 hr => ?_, hC⟩, rfl⟩
      by_cases e : m = n
      · subst e; exact h h0 hr
      · exact hP m hm h0 e hr
    have go : ∀ e : Bool, n ≠ 0 → rt S n = false → K e n = none → ∃ S' K' U' F', (L_t_settle_37 S (nI n) FU 0).bind (fun y => (j_t_hang S y (if e = true then sZ S n else sO S n) (sB S n)).bind (fun S1 => (j_t_drop S1 (nI n)).bind (fun S2 => (j_t_settle k S2 y).bind (fun S3 => some S3)))) = some S' ∧ TI S' P K' U' F' ∧ RL S' P U' = RL S P U := by
      intro e h0 hr hke
      obtain ⟨a, d, ha, hka, hd, hloop⟩ := settle_loop hS hR hn FU 0 hS.z hS.root (Ne.symm h0) (by unfold FU; omega)
      rw [nI_0] at hloop
      obtain ⟨-, hxt, -⟩ := hS.ch ha hka
      have ha1 := hR.lt ha
      have hn32 := (hS.vp hn).1
      have hlt := hxt.1
      have hval : (if e = true then sZ S n else sO S n) = enc (K (!e) n) := by
        cases e
        · exact hO
        · exact hZ
      rw [hloop, Option.bind_some, hval, hB, hang_eq ha1 (hR a ha).2.2.1 (by omega), Option.bind_some, ← hd]
      have hS1 := hS.del ha hka h0 hke
      have hR1 := hR.hang (a := a) d (K (!e) n)
      have hF1 := hF.hang (a := a) d (enc (K (!e) n)) ha
      obtain ⟨S2, e1, e2, e3, e4, e5, e6, e7, e8⟩ := drop_eq hF1 hS.nd hn hn1
      rw [e1, Option.bind_some]
      have mem : ∀ {m}, m ∈ U.erase n → m ∈ U ∧ m ≠ n := fun hm => by
        have := (hS.nd.mem_erase_iff).mp hm
        exact ⟨this.2, this.1⟩
      have hR2 : Rep S2 P (stK K d a (K (!e) n)) (U.erase n) := by
        intro m hm
        obtain ⟨g1, g2, g3, g4, g5⟩ := hR1 m (mem hm).1
        refine ⟨g1, by rw [e2]; exact g2, by rw [e3]; exact g3, ?_, by rw [e5]; exact g5⟩
        rw [e7, upd_n _ _ (mem hm).2]
        exact g4
      have hsH : sH S2 = sH S := by rw [e4, hang_H]
      have hane : a ≠ n := fun q => by subst q; exact absurd hlt (Nat.lt_irrefl _)
      have haE : a ∈ U.erase n := (hS.nd.mem_erase_iff).mpr ⟨hane, ha⟩
      have hH2 : Hop S2 (U.erase n) := fun m hm => by rw [hsH]; exact hH m (mem hm).1
      have hC2 : Cnt S2 P (U.erase n) := by
        intro m hm
        rw [e6, hang_W, hC m (mem hm).1]
        congr 1
        show _ = (U.erase n).countP (fun m' => rt S2 m' && decide (ple (P m) (P m')))
        rw [rt_cg hsH, cnt_erase (by rw [hr]; rfl)]
        rfl
      have hP2 : ∀ m, m ∈ U.erase n → m ≠ 0 → m ≠ a → rt S2 m = false → stK K d a (K (!e) n) false m ≠ none ∧ stK K d a (K (!e) n) true m ≠ none := by
        intro m hm hm0 hma hrm
        rw [rt_cg hsH] at hrm
        rw [stK_n (fun q => hma q.1), stK_n (fun q => hma q.1)]
        exact hP m (mem hm).1 hm0 (mem hm).2 hrm
      obtain ⟨S', K', U', F', g1, g2, g3⟩ := ih S2 _ _ _ a hS1 hR2 e8 hH2 hC2 hP2 haE (by omega)
      refine ⟨S', K', U', F', by rw [g1]; rfl, g2, ?_⟩
      rw [g3, RL_cg hsH]
      unfold RL
      rw [flt_erase hr]
    rw [j_t_settle]
    by_cases h0 : n = 0
    · rw [if_pos (by rw [h0, nI_0])]
      exact keep (fun q => absurd h0 q)
    · rw [if_neg (fun q => h0 ((nI_zero (by omega)).mp q)), gd_ok (ok_nI hn1 (by decide)), cl_nI hn1]
      by_cases hr : sH S n = -1
      · rw [if_pos hr]
        have hrf := rt_f.mpr hr
        by_cases hz : sZ S n = -1
        · rw [if_pos hz]
          exact go false h0 hrf ((enc_none (kid false)).mp (hZ.symm.trans hz))
        · rw [if_neg hz]
          by_cases ho : sO S n = -1
          · rw [if_pos ho]
            exact go true h0 hrf ((enc_none (kid true)).mp (hO.symm.trans ho))
          · rw [if_neg ho]
            exact keep (fun _ _ => ⟨fun q => hz (by rw [hZ, q]; rfl), fun q => ho (by rw [hO, q]; rfl)⟩)
      · rw [if_neg hr]
        exact keep (fun _ q => by rw [rt_t.mpr hr] at q; cases q)
end
end
section
theorem Str.cg {P P' : Nat → PX} {K K' : Bool → Nat → Option Nat} {U U' : List Nat} (h : Str P K U) (hP : ∀ n, n ∈ U → P' n = P n) (hK : ∀ n, n ∈ U → ∀ d, K' d n = K d n) (hm : ∀ n, n ∈ U' ↔ n ∈ U) (hnd : U'.Nodup) : Str P' K' U' := by
  refine ⟨hnd, (hm 0).mpr h.z, by rw [hP 0 h.z]; exact h.p0, fun n hn => ?_, fun m hmm n hn e => ?_, fun n hn d hk m hmm => ?_, fun n hn d c hk => ?_⟩
  · rw [hm] at hn; rw [hP n hn]; exact h.vp hn
  · rw [hm] at hn hmm; rw [hP n hn, hP m hmm] at e; exact h.inj hmm hn e
  · rw [hm] at hn hmm; rw [hK n hn] at hk; rw [hP n hn, hP m hmm]; exact h.no hn hk hmm
  · rw [hm] at hn; rw [hK n hn] at hk
    obtain ⟨h1, h2, h3⟩ := h.ch hn hk
    refine ⟨(hm c).mpr h1, by rw [hP n hn, hP c h1]; exact h2, fun m hmm => ?_⟩
    rw [hm] at hmm; rw [hP n hn, hP c h1, hP m hmm]; exact h3 m hmm
section
variable {S S' : TS} {P : Nat → PX} {K : Bool → Nat → Option Nat} {U F : List Nat}
theorem rt_old {x : Nat} {h9 : Int32} (hx : x ∉ U) (hH : sH S' = upd (sH S) x h9) {m : Nat} (hm : m ∈ U) : rt S' m = rt S m := by
  unfold rt; rw [hH, upd_n _ _ (ne_of_mem hx hm)]
theorem rt_new {x : Nat} {h9 : Int32} (hH : sH S' = upd (sH S) x h9) : rt S' x = decide (¬ h9 = -1) := by
  unfold rt; rw [hH, upd_s]
theorem rc_old {x : Nat} {h9 : Int32} {T : PX} (hx : x ∉ U) (hH : sH S' = upd (sH S) x h9) (q : PX) : U.countP (fun m => rt S' m && decide (ple q (upP P x T m))) = rc S P U q := cnt_cg (fun m hm => by rw [rt_old hx hH hm, upP_n (ne_of_mem hx hm)])
/-- a route more -/
theorem rc_add {x : Nat} {h9 : Int32} {T : PX} (hx : x ∉ U) (hH : sH S' = upd (sH S) x h9) (h9r : ¬ h9 = -1) (q : PX) : rc S' (upP P x T) (x :: U) q = rc S P U q + if ple q T then 1 else 0 := by
  unfold rc
  rw [List.countP_cons, rc_old hx hH, rt_new hH, decide_eq_true h9r, upP_s, Bool.true_and]
  by_cases h : ple q T
  · rw [if_pos h, decide_eq_true h]; rfl
  · rw [if_neg h, decide_eq_false h]; rfl
/-- a node more that is no route -/
theorem rc_mid {x : Nat} {T : PX} (hx : x ∉ U) (hH : sH S' = upd (sH S) x (-1)) (q : PX) : rc S' (upP P x T) (x :: U) q = rc S P U q := by
  unfold rc
  rw [List.countP_cons, rc_old hx hH, rt_new hH, decide_eq_false (fun z => z rfl)]; rfl
theorem RL_old {x : Nat} {h9 : Int32} {T : PX} (hx : x ∉ U) (hH : sH S' = upd (sH S) x h9) : (U.filter (rt S')).map (fun n => (upP P x T n, sH S' n)) = RL S P U := by
  unfold RL
  have e1 : U.filter (rt S') = U.filter (rt S) := List.filter_congr (fun m hm => rt_old hx hH hm)
  rw [e1]
  refine List.map_congr_left (fun m hm => ?_)
  have hmU := (List.mem_filter.mp hm).1
  rw [upP_n (ne_of_mem hx hmU), hH, upd_n _ _ (ne_of_mem hx hmU)]
theorem RL_add {x : Nat} {h9 : Int32} {T : PX} (hx : x ∉ U) (hH : sH S' = upd (sH S) x h9) (h9r : ¬ h9 = -1) : RL S' (upP P x T) (x :: U) = (T, h9) :: RL S P U := by
  rw [← RL_old (T := T) hx hH]
  unfold RL
  rw [List.filter_cons, rt_new hH, decide_eq_true h9r, if_pos rfl, List.map_cons, upP_s, hH, upd_s]
theorem RL_mid {x : Nat} {T : PX} (hx : x ∉ U) (hH : sH S' = upd (sH S) x (-1)) : RL S' (upP P x T) (x :: U) = RL S P U := by
  rw [← RL_old (T := T) hx hH]
  unfold RL
  rw [List.filter_cons, rt_new hH, decide_eq_false (fun z => z rfl), if_neg (by decide)]
theorem ge0_ne {h9 : Int32} (hh : 0 ≤ h9) : ¬ h9 = -1 := fun e => by rw [e] at hh; exact absurd hh (by decide)
set_option maxHeartbeats 1000000 in
theorem enter_eq (hS : Str P K U) (hR : Rep S P K U) (hF : Fre S U F) (hlen : U.length ≤ 999) {T : PX} (hT : VP T) (hnew : ∀ n, n ∈ U → P n ≠ T) (hC : Cnt S P U) (hH : Hop S U) (hPar : Par S K U) {h9 : Int32} (hh : 0 ≤ h9) :
    ∃ S' P' K' U' F' x, j_t_enter S T.1 (nI T.2) h9 = some S' ∧ Str P' K' U' ∧ Rep S' P' K' U' ∧ Fre S' U' F' ∧ Hop S' U' ∧ Par S' K' U' ∧ x ∈ U' ∧ P' x = T ∧ (∀ n, n ∈ U' → sW S' n = nI (rc S P U (P' n))) ∧ (∀ q, rc S' P' U' q = rc S P U q + if ple q T then 1 else 0) ∧ RL S' P' U' = (T, h9) :: RL S P U := by
  have h9r := ge0_ne hh
  have hT32 := hT.1
  have hT0 : 0 < T.2 := by
    rcases Nat.eq_zero_or_pos T.2 with e | e
    · exact absurd (ple_as (hS.vp hS.z) hT hS.root (by omega)) (hnew 0 hS.z)
    · exact e
  have hp0 : (P 0).2 = 0 := by rw [hS.p0]
  obtain ⟨x, y, F2, rfl⟩ : ∃ x y F2, F = x :: y :: F2 := by
    have := hF.2.2.2.1
    match F, this with
    | [], h => simp at h; omega
    | [_], h => simp at h; omega
    | x :: y :: F2, _ => exact ⟨x, y, F2, rfl⟩
  have hc := child_eq hR hS.z T.1 (by omega)
  rw [nI_0] at hc
  obtain ⟨a, ha, hle, hlt, hloop, hstop⟩ := enter_loop hS hR hT h9 FU 0 hS.z hS.root (by omega) (by unfold FU; omega)
  rw [nI_0] at hloop
  have hxt : pxt (P a) (mb T.1 (P a).2) T := pxt_lt hle hlt
  have ha1 := hR.lt ha
  obtain ⟨S1, m1, hx1, hxU, mB, mL, mH, mZ, mO, mW, hF1⟩ := make_eq hF T.1 (nI T.2) h9
  have hR1 := hR.make (T := T) hxU hx1 mB mL mZ mO
  have hax : a ≠ x := ne_of_mem hxU ha
  have haS : sL S1 a = nI (P a).2 := by rw [mL, upd_n _ _ hax]; exact (hR a ha).2.2.1
  have hrtx : rt S1 x = true := by rw [rt_new mH]; exact decide_eq_true h9r
  have hHop1 : ∀ n, n ∈ x :: U → upd (sH S) x h9 n = -1 ∨ 0 ≤ upd (sH S) x h9 n := by
    intro n hn
    rw [List.mem_cons] at hn
    by_cases e : n = x
    · rw [e, upd_s]; exact Or.inr hh
    · rw [upd_n _ _ e]; exact hH n (hn.resolve_left e)
  unfold j_t_enter
  rw [hc, Option.bind_some, hloop, Option.bind_some, m1, Option.bind_some]
  dsimp only
  generalize hd : mb T.1 (P a).2 = d at *
  cases hk : K d a with
  | none =>
    rw [if_pos (show enc none = -1 from rfl), hang_eq ha1 haS (by omega), Option.bind_some, hd]
    refine ⟨hangS S1 a d (enc (some x)), upP P x T, stK (clK K x) d a (some x), x :: U, y :: F2, x, rfl, hS.leaf hxU hT ha hxt hk, hR1.hang d (some x), hF1.hang d _ (List.mem_cons_of_mem _ ha), ?_, ?_, List.mem_cons_self, upP_s _ _, ?_, fun q => ?_, ?_⟩
    · intro n hn; rw [hang_H, mH]; exact hHop1 n hn
    · intro n hn h0 hr
      rw [rt_cg (hang_H _ _ _ _)] at hr
      rw [List.mem_cons] at hn
      rcases hn with rfl | hn
      · rw [hrtx] at hr; cases hr
      · rw [rt_old hxU mH hn] at hr
        have hp := hPar n hn h0 hr
        have key : ∀ e, K e n ≠ none → stK (clK K x) d a (some x) e n ≠ none := by
          intro e he
          by_cases hq : n = a ∧ e = d
          · rw [hq.1, hq.2, stK_s]; exact fun z => by cases z
          · rw [stK_n hq, clK_n (ne_of_mem hxU hn)]; exact he
        exact ⟨key _ hp.1, key _ hp.2⟩
    · intro n hn
      rw [hang_W, mW]
      by_cases e : n = x
      · subst e
        rw [upd_s, upP_s]
        have : rc S P U T = 0 := cnt_0 (fun m hm => by rw [decide_eq_false (fun q => hS.no ha hk hm (pxt_tr hxt q)), Bool.and_false])
        rw [this, nI_0]
      · rw [List.mem_cons] at hn
        rw [upd_n _ _ e, upP_n e]; exact hC n (hn.resolve_left e)
    · rw [rc_cg (hang_H _ _ _ _), rc_add hxU mH h9r]
    · rw [RL_cg (hang_H _ _ _ _), RL_add hxU mH h9r]
  | some n =>
    obtain ⟨hn, hxn, hmin⟩ := hS.ch ha hk
    have hn1 := hR.lt hn
    have hnx : n ≠ x := ne_of_mem hxU hn
    have hn32 := (hS.vp hn).1
    have hnot := hstop n hk
    have eB : sB S1 n = (P n).1 := by rw [mB, upd_n _ _ hnx]; exact (hR n hn).2.1
    have eL : sL S1 n = nI (P n).2 := by rw [mL, upd_n _ _ hnx]; exact (hR n hn).2.2.1
    obtain ⟨c, c1, c2, c3, c4, c5⟩ := tcom_spec (P n).1 T.1 hn32 hT32
    rw [show enc (some n) = nI n from rfl]
    rw [if_neg (m1_nI (by omega)), gd_ok (ok_nI hn1 (by decide)), cl_nI hn1, eB, eL, c3, Option.bind_some]
    by_cases hcT : c = T.2
    · -- the new node stands between a and n
      have hTn : ple T (P n) := ⟨by omega, fun i hi => (c4 i (by omega)).symm⟩
      have hTl : T.2 < (P n).2 := by
        rcases Nat.lt_or_ge T.2 (P n).2 with z | z
        · exact z
        · exact absurd (ple_as hT (hS.vp hn) hTn z).symm (hnew n hn)
      have eLx : sL S1 x = nI T.2 := by rw [mL, upd_s]
      rw [if_pos (by rw [hcT]), hang_eq hx1 eLx (by omega), Option.bind_some, gd_ok (ok_nI hx1 (by decide)), cl_nI hx1, hang_W, mW]
      have hL2 : sL (uW (hangS S1 x (mb (P n).1 T.2) (nI n)) x (upd (sW S) x 0 n)) a = nI (P a).2 := by
        show sL (hangS S1 x (mb (P n).1 T.2) (nI n)) a = _
        rw [hang_L]; exact haS
      rw [hang_eq ha1 hL2 (by omega), Option.bind_some, hd]
      have hH2 : ∀ z, sH (hangS (uW (hangS S1 x (mb (P n).1 T.2) (nI n)) x (upd (sW S) x 0 n)) a d z) = upd (sH S) x h9 := by
        intro z
        rw [hang_H]
        show sH (hangS S1 x (mb (P n).1 T.2) (nI n)) = _
        rw [hang_H, mH]
      refine ⟨_, upP P x T, stK (stK (clK K x) (mb (P n).1 T.2) x (some n)) d a (some x), x :: U, y :: F2, x, rfl, hS.mid hxU hT ha hxt hk hTn hTl, ?_, ?_, ?_, ?_, List.mem_cons_self, upP_s _ _, ?_, fun q => ?_, ?_⟩
      · exact Rep.hang (S := uW (hangS S1 x (mb (P n).1 T.2) (nI n)) x (upd (sW S) x 0 n)) (hR1.hang (a := x) (mb (P n).1 T.2) (some n)) d (some x)
      · exact Fre.hang (S := uW (hangS S1 x (mb (P n).1 T.2) (nI n)) x (upd (sW S) x 0 n)) (hF1.hang (a := x) (mb (P n).1 T.2) (nI n) List.mem_cons_self) d _ (List.mem_cons_of_mem _ ha)
      · intro m hm; rw [hH2]; exact hHop1 m hm
      · intro m hm h0 hr
        rw [List.mem_cons] at hm
        rcases hm with rfl | hm
        · rw [rt_new (hH2 _), decide_eq_true h9r] at hr; cases hr
        · rw [rt_old hxU (hH2 _) hm] at hr
          have hp := hPar m hm h0 hr
          have key : ∀ e, K e m ≠ none → stK (stK (clK K x) (mb (P n).1 T.2) x (some n)) d a (some x) e m ≠ none := by
            intro e he
            by_cases hq : m = a ∧ e = d
            · rw [hq.1, hq.2, stK_s]; exact fun z => by cases z
            · rw [stK_n hq, stK_n (fun z => ne_of_mem hxU hm z.1), clK_n (ne_of_mem hxU hm)]; exact he
          exact ⟨key _ hp.1, key _ hp.2⟩
      · intro m hm
        rw [hang_W]
        show upd (sW (hangS S1 x (mb (P n).1 T.2) (nI n))) x (upd (sW S) x 0 n) m = _
        rw [hang_W, mW]
        by_cases e : m = x
        · subst e
          rw [upd_s, upP_s, upd_n _ _ hnx, hC n hn]
          congr 1
          refine cnt_cg (fun q hq => ?_)
          congr 1
          by_cases z : ple T (P q)
          · rw [decide_eq_true z, decide_eq_true (hmin q hq (pxt_tr hxt z))]
          · rw [decide_eq_false z, decide_eq_false (fun w => z (ple_tr hTn w))]
        · rw [List.mem_cons] at hm
          rw [upd_n _ _ e, upd_n _ _ e, upP_n e]; exact hC m (hm.resolve_left e)
      · rw [rc_add hxU (hH2 _) h9r]
      · rw [RL_add hxU (hH2 _) h9r]
    · -- a middle node M with n and the new one below it
      have hcn : c < (P n).2 := by
        rcases Nat.lt_or_ge c (P n).2 with z | z
        · exact z
        · exact absurd ⟨⟨by omega, fun i hi => c4 i (by omega)⟩, by omega⟩ hnot
      have hdif : mb (P n).1 c ≠ mb T.1 c := by
        rcases c5 with z | z | z
        · omega
        · exact absurd z hcT
        · exact z
      have hac : (P a).2 < c := by
        apply Classical.byContradiction
        intro z
        apply hdif
        rcases Nat.lt_or_ge c (P a).2 with w | w
        · rw [← hxn.2.1 c w, hxt.2.1 c w]
        · rw [show c = (P a).2 by omega, hxn.2.2, hxt.2.2]
      have hMv : VP ((T.1 &&& msk c, c) : PX) := vd_and (by omega)
      obtain ⟨M, hM⟩ : ∃ M : PX, M = (T.1 &&& msk c, c) := ⟨_, rfl⟩
      rw [← hM] at hMv
      have hM2 : M.2 = c := by rw [hM]
      have hM1 : M.1 = T.1 &&& msk c := by rw [hM]
      have hMb : ∀ i, i < c → mb M.1 i = mb T.1 i := fun i hi => by rw [hM1]; exact mb_and_msk (by omega) hi
      have hMT : ple M T := ⟨by omega, fun i hi => hMb i (by omega)⟩
      have hMn : ple M (P n) := ⟨by omega, fun i hi => (hMb i (by omega)).trans (c4 i (by omega)).symm⟩
      have hxM : pxt (P a) d M := pxt_dn hxt hMT (by omega)
      rw [if_neg (fun z => hcT ((nI_eq (by omega) (by omega)).mp z)), tmask_eq (by omega), Option.bind_some]
      obtain ⟨S2, m2, hy1, hyU, nB, nL, nH, nZ, nO, nW, hF2⟩ := make_eq hF1 (T.1 &&& msk c) (nI c) (-1)
      rw [m2, Option.bind_some]
      dsimp only
      have hyx : y ≠ x := fun z => hyU (z ▸ List.mem_cons_self)
      have hyU0 : y ∉ U := fun z => hyU (List.mem_cons_of_mem _ z)
      have hny : n ≠ y := ne_of_mem hyU0 hn
      have hay : a ≠ y := ne_of_mem hyU0 ha
      have hR2 := hR1.make (T := M) hyU hy1 (by rw [hM1]; exact nB) (by rw [hM2]; exact nL) nZ nO
      have eLy : sL S2 y = nI c := by rw [nL, upd_s]
      have eB2 : sB S2 n = (P n).1 := by rw [nB, upd_n _ _ hny]; exact eB
      rw [eB2, hang_eq hy1 eLy (by omega), Option.bind_some, hang_eq hy1 (by rw [hang_L]; exact eLy) (by omega), Option.bind_some, gd_ok (ok_nI hy1 (by decide)), cl_nI hy1, hang_W, hang_W, nW]
      obtain ⟨d1, hd1⟩ : ∃ d1, d1 = mb (P n).1 c := ⟨_, rfl⟩
      obtain ⟨d2, hd2⟩ : ∃ d2, d2 = mb T.1 c := ⟨_, rfl⟩
      rw [← hd1, ← hd2] at hdif
      rw [← hd1, ← hd2]
      obtain ⟨Sv, hSv⟩ : ∃ Sv, Sv = hangS (hangS S2 y d1 (nI n)) y d2 (nI x) := ⟨_, rfl⟩
      rw [← hSv]
      have svL : sL Sv = sL S2 := by rw [hSv, hang_L, hang_L]
      have svH : sH Sv = sH S2 := by rw [hSv, hang_H, hang_H]
      have svW : sW Sv = upd (sW S1) y 0 := by rw [hSv, hang_W, hang_W, nW]
      have hRv : Rep Sv (upP (upP P x T) y M) (stK (stK (clK (clK K x) y) d1 y (some n)) d2 y (some x)) (y :: x :: U) := by
        rw [hSv]; exact (hR2.hang (a := y) d1 (some n)).hang (a := y) d2 (some x)
      have hFv : Fre Sv (y :: x :: U) F2 := by
        rw [hSv]; exact (hF2.hang (a := y) d1 _ List.mem_cons_self).hang (a := y) d2 _ List.mem_cons_self
      have hL3 : sL (uW Sv y (upd (sW S1) y 0 n)) a = nI (P a).2 := by
        show sL Sv a = _
        rw [svL, nL, upd_n _ _ hay]; exact haS
      rw [hang_eq ha1 hL3 (by omega), Option.bind_some, hd]
      have hH2 : ∀ z, sH (hangS (uW Sv y (upd (sW S1) y 0 n)) a d z) = upd (sH S1) y (-1) := by
        intro z
        rw [hang_H]
        show sH Sv = _
        rw [svH, nH]
      have haU2 : a ∈ y :: x :: U := List.mem_cons_of_mem _ (List.mem_cons_of_mem _ ha)
      -- the shape: M between a and n, then T below M
      have hStr : Str (upP (upP P x T) y M) (stK (stK (stK (clK (clK K x) y) d1 y (some n)) d2 y (some x)) d a (some y)) (y :: x :: U) := by
        have s1 := hS.mid hyU0 hMv ha hxM hk hMn (by omega)
        rw [hM2, ← hd1] at s1
        have hxyU : x ∉ y :: U := fun z => by
          rw [List.mem_cons] at z
          rcases z with z | z
          · exact hyx z.symm
          · exact hxU z
        have s2 := s1.leaf (x := x) (a := y) (T := T) (d := d2) hxyU hT List.mem_cons_self (by rw [upP_s]; exact ⟨by omega, hMT.2, by rw [hM2]; exact hd2.symm⟩) (by
          rw [stK_n (fun z => hay z.1.symm), stK_n (fun z => hdif z.2.symm), clK_s])
        refine s2.cg (fun m hm => ?_) (fun m hm e => ?_) (fun m => ?_) (List.nodup_cons.mpr ⟨hyU, List.nodup_cons.mpr ⟨hxU, hS.nd⟩⟩)
        · by_cases e1 : m = y
          · subst e1; rw [upP_s, upP_n hyx, upP_s]
          · rw [upP_n e1]
            by_cases e2 : m = x
            · subst e2; rw [upP_s, upP_s]
            · rw [upP_n e2, upP_n e2, upP_n e1]
        · by_cases e1 : m = y
          · subst e1
            rw [stK_n (fun z => hay z.1.symm)]
            by_cases e2 : e = d2
            · subst e2; rw [stK_s, stK_s]
            · have e3 : e = d1 := by
                revert hdif e2
                cases e <;> cases d1 <;> cases d2 <;> simp
              subst e3
              rw [stK_n (fun z => e2 z.2), stK_s, stK_n (fun z => e2 z.2), clK_n hyx, stK_n (fun z => hay z.1.symm), stK_s]
          · rw [stK_n (K := clK _ x) (fun z => e1 z.1)]
            by_cases e2 : m = x
            · subst e2
              rw [clK_s, stK_n (fun z => hax z.1.symm), stK_n (fun z => e1 z.1), stK_n (fun z => e1 z.1), clK_n e1, clK_s]
            · rw [clK_n e2]
              by_cases e3 : m = a ∧ e = d
              · rw [e3.1, e3.2, stK_s, stK_s]
              · rw [stK_n e3, stK_n e3, stK_n (fun z => e1 z.1), stK_n (fun z => e1 z.1), stK_n (fun z => e1 z.1), clK_n e1, clK_n e2, clK_n e1]
        · simp only [List.mem_cons]
          constructor
          · rintro (z | z | z)
            · exact Or.inr (Or.inl z)
            · exact Or.inl z
            · exact Or.inr (Or.inr z)
          · rintro (z | z | z)
            · exact Or.inr (Or.inl z)
            · exact Or.inl z
            · exact Or.inr (Or.inr z)
      refine ⟨_, upP (upP P x T) y M, _, y :: x :: U, F2, x, rfl, hStr, ?_, ?_, ?_, ?_, List.mem_cons_of_mem _ List.mem_cons_self, by rw [upP_n hyx.symm, upP_s], ?_, fun q => ?_, ?_⟩
      · exact Rep.hang (S := uW Sv y (upd (sW S1) y 0 n)) hRv d (some y)
      · exact Fre.hang (S := uW Sv y (upd (sW S1) y 0 n)) hFv d _ haU2
      · intro m hm
        rw [hH2]
        by_cases e : m = y
        · rw [e, upd_s]; exact Or.inl rfl
        · rw [List.mem_cons] at hm
          rw [upd_n _ _ e, mH]; exact hHop1 m (hm.resolve_left e)
      · intro m hm h0 hr
        by_cases e : m = y
        · subst e
          have q1 : stK (stK (stK (clK (clK K x) m) d1 m (some n)) d2 m (some x)) d a (some m) d2 m ≠ none := by
            rw [stK_n (fun z => hay z.1.symm), stK_s]; exact fun z => by cases z
          have q2 : stK (stK (stK (clK (clK K x) m) d1 m (some n)) d2 m (some x)) d a (some m) d1 m ≠ none := by
            rw [stK_n (fun z => hay z.1.symm), stK_n (fun z => hdif z.2), stK_s]; exact fun z => by cases z
          revert q1 q2 hdif
          cases d1 <;> cases d2 <;> simp
          · exact fun q1 q2 => ⟨q2, q1⟩
          · exact fun q1 q2 => ⟨q1, q2⟩
        · rw [List.mem_cons] at hm
          have hm := hm.resolve_left e
          rw [rt_old hyU (hH2 _) hm] at hr
          rw [List.mem_cons] at hm
          rcases hm with rfl | hm
          · rw [hrtx] at hr; cases hr
          · rw [rt_old hxU mH hm] at hr
            have hp := hPar m hm h0 hr
            have key : ∀ e', K e' m ≠ none → stK (stK (stK (clK (clK K x) y) d1 y (some n)) d2 y (some x)) d a (some y) e' m ≠ none := by
              intro e' he
              by_cases hq : m = a ∧ e' = d
              · rw [hq.1, hq.2, stK_s]; exact fun z => by cases z
              · rw [stK_n hq, stK_n (fun z => e z.1), stK_n (fun z => e z.1), clK_n e, clK_n (ne_of_mem hxU hm)]; exact he
            exact ⟨key _ hp.1, key _ hp.2⟩
      · intro m hm
        rw [hang_W]
        show upd (sW Sv) y (upd (sW S1) y 0 n) m = _
        rw [svW]
        by_cases e : m = y
        · subst e
          rw [upd_s, upP_s, upd_n _ _ hny, mW, upd_n _ _ hnx, hC n hn]
          congr 1
          refine cnt_cg (fun q hq => ?_)
          congr 1
          by_cases z : ple M (P q)
          · rw [decide_eq_true z, decide_eq_true (hmin q hq (pxt_tr hxM z))]
          · rw [decide_eq_false z, decide_eq_false (fun w => z (ple_tr hMn w))]
        · rw [List.mem_cons] at hm
          have hm := hm.resolve_left e
          rw [upd_n _ _ e, upd_n _ _ e, upP_n e, mW]
          by_cases e2 : m = x
          · subst e2
            rw [upd_s, upP_s]
            have : rc S P U T = 0 := cnt_0 (fun q hq => by
              rw [decide_eq_false, Bool.and_false]
              intro z
              have hnq := hmin q hq (pxt_tr hxt z)
              apply hdif
              rw [hd1, hd2, hnq.2 c hcn, z.2 c (by omega)])
            rw [this, nI_0]
          · rw [List.mem_cons] at hm
            rw [upd_n _ _ e2, upP_n e2]; exact hC m (hm.resolve_left e2)
      · rw [rc_mid hyU (hH2 _), rc_add hxU mH h9r]
      · rw [RL_mid hyU (hH2 _), RL_add hxU mH h9r]
end
end
section
-- THE TRIE AS A LIST OF ROUTES, in any order
def Tr (S : TS) (R : List (PX × Int32)) : Prop := ∃ P K U F, TI S P K U F ∧ (RL S P U).Perm R
section
variable {S : TS} {P : Nat → PX} {K : Bool → Nat → Option Nat} {U F : List Nat} {R : List (PX × Int32)}
theorem Fre.len (h : Fre S U F) : U.length ≤ 1001 := by have := h.2.2.2.1; omega
theorem mem_RL {r : PX × Int32} : r ∈ RL S P U ↔ ∃ n, n ∈ U ∧ rt S n = true ∧ r = (P n, sH S n) := by
  unfold RL
  rw [List.mem_map]
  constructor
  · rintro ⟨n, h, e⟩
    exact ⟨n, (List.mem_filter.mp h).1, (List.mem_filter.mp h).2, e.symm⟩
  · rintro ⟨n, h1, h2, e⟩
    exact ⟨n, List.mem_filter.mpr ⟨h1, h2⟩, e.symm⟩
theorem cnt_RL (p : PX → Bool) : U.countP (fun m => rt S m && p (P m)) = (RL S P U).countP (fun r => p r.1) := by
  unfold RL
  rw [List.countP_map, List.countP_filter]
  refine cnt_cg (fun m _ => ?_)
  exact Bool.and_comm _ _
theorem rc_R (h : (RL S P U).Perm R) (q : PX) : rc S P U q = R.countP (fun r => decide (ple q r.1)) := by
  rw [← h.countP_eq]; exact cnt_RL (fun x => decide (ple q x))
theorem bc_R (h : (RL S P U).Perm R) (q : PX) : bc S P U q = R.countP (fun r => decide (bf r.1 q)) := by
  rw [← h.countP_eq]; exact cnt_RL (fun x => decide (bf x q))
theorem rc_0 (hS : Str P K U) (h : (RL S P U).Perm R) : rc S P U (P 0) = R.length := by
  rw [rc_R h, List.countP_eq_length]
  intro r _
  exact decide_eq_true hS.root
/-- a route's node -/
theorem node_of (h : (RL S P U).Perm R) {r : PX × Int32} (hr : r ∈ R) : ∃ n, n ∈ U ∧ rt S n = true ∧ r = (P n, sH S n) := mem_RL.mp (h.mem_iff.mpr hr)
theorem of_node (h : (RL S P U).Perm R) {n : Nat} (hn : n ∈ U) (hr : rt S n = true) : (P n, sH S n) ∈ R := h.mem_iff.mp (mem_RL.mpr ⟨n, hn, hr, rfl⟩)
theorem tr_count (h : Tr S R) : j_t_count S = some (nI R.length) := by
  obtain ⟨P, K, U, F, ⟨hS, hR, hF, hH, hP, hC⟩, hp⟩ := h
  rw [count_eq hS hC, rc_0 hS hp]
theorem tr_under (h : Tr S R) {T : PX} (hT : VP T) (hp : j_t_isPrefix T.1 (nI T.2) = some 1) : j_t_under S T.1 (nI T.2) = some (nI (R.countP (fun r => decide (ple T r.1)))) := by
  obtain ⟨P, K, U, F, ⟨hS, hR, hF, hH, hP, hC⟩, hpm⟩ := h
  rw [under_eq hS hR hC hT hp, rc_R hpm]
theorem tr_exact (h : Tr S R) {T : PX} (hT : VP T) (hp : j_t_isPrefix T.1 (nI T.2) = some 1) : (∃ h9, (T, h9) ∈ R ∧ j_t_exact S T.1 (nI T.2) = some h9) ∨ ((∀ h9, (T, h9) ∉ R) ∧ j_t_exact S T.1 (nI T.2) = some (-1)) := by
  obtain ⟨P, K, U, F, ⟨hS, hR, hF, hH, hP, hC⟩, hpm⟩ := h
  unfold j_t_exact
  rw [hp, Option.bind_some, if_neg (by decide)]
  rcases find_eq hS hR hT with ⟨n, hn, e, ef⟩ | ⟨hno, ef⟩
  · have hn1 := hR.lt hn
    rw [ef, Option.bind_some, if_neg (m1_nI (by omega)), gd_ok (ok_nI hn1 (by decide)), cl_nI hn1]
    by_cases hr : sH S n = -1
    · right
      refine ⟨fun h9 hm => ?_, by rw [hr]⟩
      obtain ⟨m, hm1, hm2, hm3⟩ := node_of hpm hm
      have e2 := hS.inj hm1 hn ((Prod.mk.inj hm3).1.symm.trans e.symm)
      subst e2
      exact rt_t.mp hm2 hr
    · left
      exact ⟨sH S n, by rw [← e]; exact of_node hpm hn (rt_t.mpr hr), rfl⟩
  · right
    refine ⟨fun h9 hm => ?_, by rw [ef, Option.bind_some, if_pos rfl]⟩
    obtain ⟨m, hm1, hm2, hm3⟩ := node_of hpm hm
    exact hno m hm1 (Prod.mk.inj hm3).1.symm
/-- the best route of an address, by what is asked of it -/
def LK (f : PX × Int32 → Int32) (R : List (PX × Int32)) (v y : Int32) : Prop := (y = -1 ∧ ∀ r, r ∈ R → ¬ bg v r.1) ∨ ∃ r, r ∈ R ∧ bg v r.1 ∧ (∀ r', r' ∈ R → bg v r'.1 → r'.1.2 ≤ r.1.2) ∧ y = f r
theorem tr_match (h : Tr S R) (v : Int32) : (j_t_match S v = some (-1) ∧ ∀ r, r ∈ R → ¬ bg v r.1) ∨ ∃ b, b < 1001 ∧ j_t_match S v = some (nI b) ∧ ∃ r, r ∈ R ∧ bg v r.1 ∧ (∀ r', r' ∈ R → bg v r'.1 → r'.1.2 ≤ r.1.2) ∧ sH S b = r.2 ∧ sL S b = nI r.1.2 := by
  obtain ⟨P, K, U, F, ⟨hS, hR, hF, hH, hP, hC⟩, hpm⟩ := h
  obtain ⟨y, e, hm⟩ := match_eq hS hR v
  rcases hm with ⟨rfl, hm⟩ | ⟨b, hb, rfl, h1, h2, h3⟩
  · left
    refine ⟨e, fun r hr => ?_⟩
    obtain ⟨n, hn, hrn, rfl⟩ := node_of hpm hr
    exact hm n hn hrn
  · right
    refine ⟨b, hR.lt hb, e, _, of_node hpm hb h1, h2, fun r' hr' => ?_, rfl, (hR b hb).2.2.1⟩
    obtain ⟨n, hn, hrn, rfl⟩ := node_of hpm hr'
    exact h3 n hn hrn
theorem tr_lookup (h : Tr S R) (v : Int32) : ∃ y, j_t_lookup S v = some y ∧ LK (fun r => r.2) R v y := by
  unfold j_t_lookup
  rcases tr_match h v with ⟨e, hn⟩ | ⟨b, hb, e, r, h1, h2, h3, h4, h5⟩
  · exact ⟨-1, by rw [e, Option.bind_some, if_pos rfl], Or.inl ⟨rfl, hn⟩⟩
  · exact ⟨sH S b, by rw [e, Option.bind_some, if_neg (m1_nI (by omega)), gd_ok (ok_nI hb (by decide)), cl_nI hb], Or.inr ⟨r, h1, h2, h3, h4⟩⟩
theorem tr_lookupLen (h : Tr S R) (v : Int32) : ∃ y, j_t_lookupLen S v = some y ∧ LK (fun r => nI r.1.2) R v y := by
  unfold j_t_lookupLen
  rcases tr_match h v with ⟨e, hn⟩ | ⟨b, hb, e, r, h1, h2, h3, h4, h5⟩
  · exact ⟨-1, by rw [e, Option.bind_some, if_pos rfl], Or.inl ⟨rfl, hn⟩⟩
  · exact ⟨sL S b, by rw [e, Option.bind_some, if_neg (m1_nI (by omega)), gd_ok (ok_nI hb (by decide)), cl_nI hb], Or.inr ⟨r, h1, h2, h3, h5⟩⟩
def sel (x2 : Int32) (r : PX × Int32) : Int32 := if x2 = 0 then r.1.1 else if x2 = 1 then nI r.1.2 else if x2 = 2 then r.2 else 0
theorem tr_route (h : Tr S R) (x2 : Int32) {j : Nat} (hj : j < R.length) : ∃ r, r ∈ R ∧ R.countP (fun r' => decide (bf r'.1 r.1)) = j ∧ j_t_route S (nI j) x2 = some (sel x2 r) := by
  obtain ⟨P, K, U, F, ⟨hS, hR, hF, hH, hP, hC⟩, hpm⟩ := h
  rw [← rc_0 hS hpm] at hj
  obtain ⟨n, hn, hr, hb, e⟩ := route_eq hS hR hC hF.len x2 hj
  refine ⟨_, of_node hpm hn hr, ?_, e⟩
  rw [← bc_R hpm]; exact hb
theorem tr_route_out (h : Tr S R) (x1 x2 : Int32) (hx : x1 < 0 ∨ ¬ x1 < nI R.length) : j_t_route S x1 x2 = some 0 := by
  obtain ⟨P, K, U, F, ⟨hS, hR, hF, hH, hP, hC⟩, hpm⟩ := h
  rw [← rc_0 hS hpm] at hx
  exact route_out hS hC x1 x2 hx
/-- the strings that a trie with the routes R has nodes for, but for the root -/
def NS (R : List (PX × Int32)) (x : PX) : Prop := VP x ∧ 0 < x.2 ∧ ((∃ h9, (x, h9) ∈ R) ∨ ∃ r1, r1 ∈ R ∧ ∃ r2, r2 ∈ R ∧ pxt x false r1.1 ∧ pxt x true r2.1)
/-- below every node but the root there is a route -/
theorem route_below (hS : Str P K U) (hP : Par S K U) : ∀ (k n : Nat), n ∈ U → n ≠ 0 → 33 ≤ k + (P n).2 → ∃ m, m ∈ U ∧ rt S m = true ∧ ple (P n) (P m) := by
  intro k
  induction k with
  | zero => intro n hn _ hk; have := (hS.vp hn).1; omega
  | succ k ih =>
    intro n hn h0 hk
    cases hr : rt S n
    · obtain ⟨h1, -⟩ := hP n hn h0 hr
      cases hk0 : K false n with
      | none => exact absurd hk0 h1
      | some c =>
        obtain ⟨h2, h3, -⟩ := hS.ch hn hk0
        obtain ⟨m, a1, a2, a3⟩ := ih c h2 (fun e => by
          have h4 := h3.1
          rw [e, hS.p0] at h4
          exact Nat.not_lt_zero _ h4) (by have := h3.1; omega)
        exact ⟨m, a1, a2, ple_tr (pxt_le h3) a3⟩
    · exact ⟨n, hn, hr, ple_rf _⟩
/-- where two routes part there is a node -/
theorem node_part (hS : Str P K U) {x : PX} (hx : VP x) {m1 m2 : Nat} (h1 : m1 ∈ U) (h2 : m2 ∈ U) (e1 : pxt x false (P m1)) (e2 : pxt x true (P m2)) : ∀ (k n : Nat), n ∈ U → ple (P n) x → 33 ≤ k + (P n).2 → ∃ n', n' ∈ U ∧ P n' = x := by
  intro k
  induction k with
  | zero => intro n hn _ hk; have := (hS.vp hn).1; omega
  | succ k ih =>
    intro n hn hle hk
    rcases Nat.lt_or_ge (P n).2 x.2 with l | l
    · have a1 : pxt (P n) (mb x.1 (P n).2) (P m1) := ple_pxt hle l (pxt_le e1)
      have a2 : pxt (P n) (mb x.1 (P n).2) (P m2) := ple_pxt hle l (pxt_le e2)
      cases hkk : K (mb x.1 (P n).2) n with
      | none => exact absurd a1 (hS.no hn hkk h1)
      | some c =>
        obtain ⟨h3, h4, h5⟩ := hS.ch hn hkk
        have b1 := h5 m1 h1 a1
        have b2 := h5 m2 h2 a2
        refine ih c h3 ?_ (by have := h4.1; omega)
        rcases Nat.lt_or_ge x.2 (P c).2 with z | z
        · have w1 := (b1.2 _ z).trans e1.2.2
          have w2 := (b2.2 _ z).trans e2.2.2
          rw [w1] at w2; cases w2
        · exact ple_cm b1 (pxt_le e1) z
    · exact ⟨n, hn, ple_as (hS.vp hn) hx hle l⟩
theorem NS_iff (hS : Str P K U) (hP : Par S K U) (hpm : (RL S P U).Perm R) (x : PX) : x ∈ (U.erase 0).map P ↔ NS R x := by
  rw [List.mem_map]
  constructor
  · rintro ⟨n, hn, rfl⟩
    obtain ⟨hn0, hn⟩ := (hS.nd.mem_erase_iff).mp hn
    refine ⟨hS.vp hn, hS.pos hn hn0, ?_⟩
    cases hr : rt S n
    · right
      obtain ⟨h1, h2⟩ := hP n hn hn0 hr
      have sub : ∀ d, K d n ≠ none → ∃ r, r ∈ R ∧ pxt (P n) d r.1 := by
        intro d hd
        cases hk : K d n with
        | none => exact absurd hk hd
        | some c =>
          obtain ⟨h3, h4, -⟩ := hS.ch hn hk
          have hc0 : c ≠ 0 := fun e => by
            have h5 := h4.1
            rw [e, hS.p0] at h5
            exact Nat.not_lt_zero _ h5
          obtain ⟨m, a1, a2, a3⟩ := route_below hS hP 33 c h3 hc0 (by omega)
          exact ⟨_, of_node hpm a1 a2, pxt_tr h4 a3⟩
      obtain ⟨r1, a1, a2⟩ := sub false h1
      obtain ⟨r2, b1, b2⟩ := sub true h2
      exact ⟨r1, a1, r2, b1, a2, b2⟩
    · left
      exact ⟨_, of_node hpm hn hr⟩
  · rintro ⟨hv, h0, h⟩
    have fin : ∀ n, n ∈ U → P n = x → ∃ a, a ∈ U.erase 0 ∧ P a = x := by
      intro n hn e
      refine ⟨n, (hS.nd.mem_erase_iff).mpr ⟨fun e0 => ?_, hn⟩, e⟩
      rw [← e, e0, hS.p0] at h0
      exact Nat.lt_irrefl _ h0
    rcases h with ⟨h9, hm⟩ | ⟨r1, hr1, r2, hr2, e1, e2⟩
    · obtain ⟨n, hn, -, e⟩ := node_of hpm hm
      exact fin n hn (Prod.mk.inj e).1.symm
    · obtain ⟨n1, g1, -, rfl⟩ := node_of hpm hr1
      obtain ⟨n2, g2, -, rfl⟩ := node_of hpm hr2
      obtain ⟨n, hn, e⟩ := node_part hS hv g1 g2 e1 e2 33 0 hS.z hS.root (by omega)
      exact fin n hn e
theorem nd_map {f : Nat → PX} : ∀ {l : List Nat}, l.Nodup → (∀ a, a ∈ l → ∀ b, b ∈ l → f a = f b → a = b) → (l.map f).Nodup
  | [], _, _ => List.nodup_nil
  | a :: l, hn, h => by
    rw [List.nodup_cons] at hn
    rw [List.map_cons, List.nodup_cons]
    refine ⟨fun hm => ?_, nd_map hn.2 (fun x hx y hy => h x (List.mem_cons_of_mem _ hx) y (List.mem_cons_of_mem _ hy))⟩
    obtain ⟨b, hb, e⟩ := List.mem_map.mp hm
    have := h b (List.mem_cons_of_mem _ hb) a List.mem_cons_self e
    subst this
    exact hn.1 hb
/-- the nodes, and what 'nodes' and 'depth' answer -/
theorem tr_nodes (h : Tr S R) : ∃ Ns : List PX, Ns.Nodup ∧ (∀ x, x ∈ Ns ↔ NS R x) ∧ j_t_nodes S = some (nI (1 + Ns.length)) ∧ ∀ v, j_t_depth S v = some (nI (1 + Ns.countP (fun x => decide (bg v x)))) := by
  obtain ⟨P, K, U, F, ⟨hS, hR, hF, hH, hP, hC⟩, hpm⟩ := h
  have hper := List.perm_cons_erase hS.z
  refine ⟨(U.erase 0).map P, nd_map (hS.nd.erase 0) (fun a ha b hb e => ?_), NS_iff hS hP hpm, ?_, fun v => ?_⟩
  · exact hS.inj ((hS.nd.mem_erase_iff).mp ha).2 ((hS.nd.mem_erase_iff).mp hb).2 e
  · unfold j_t_nodes
    rw [hF.2.2.2.2, hper.length_eq, List.length_cons, List.length_map, Nat.add_comm]
  · rw [depth_eq hS hR v, hper.countP_eq, List.countP_cons, List.countP_map, decide_eq_true (fun i hi => ?_), if_pos rfl, Nat.add_comm]
    · rfl
    · rw [hS.p0] at hi; exact absurd hi (Nat.not_lt_zero _)
/-- the room that the nodes take -/
theorem tr_room (hS : Str P K U) (hP : Par S K U) (hpm : (RL S P U).Perm R) (hB : ∀ Ns : List PX, Ns.Nodup → (∀ x, x ∈ Ns → NS R x) → Ns.length ≤ 2 * R.length) : U.length ≤ 1 + 2 * R.length := by
  have h1 := hB ((U.erase 0).map P) (nd_map (hS.nd.erase 0) (fun a ha b hb e => hS.inj ((hS.nd.mem_erase_iff).mp ha).2 ((hS.nd.mem_erase_iff).mp hb).2 e)) (fun x hx => (NS_iff hS hP hpm x).mp hx)
  rw [List.length_map] at h1
  have h2 := (List.perm_cons_erase hS.z).length_eq
  rw [List.length_cons] at h2
  omega
end
end
section
section
variable {S : TS} {R : List (PX × Int32)}
theorem Tr.len (h : Tr S R) : R.length ≤ 1001 := by
  obtain ⟨P, K, U, F, ⟨hS, hR, hF, hH, hP, hC⟩, hp⟩ := h
  rw [← rc_0 hS hp]
  exact Nat.le_trans (rc_le _) hF.len
theorem tr_ins_bad {p x h9 : Int32} (hb : j_t_isPrefix p x = some 0 ∨ (j_t_isPrefix p x = some 1 ∧ ¬ 0 ≤ h9)) : j_t_insert S p x h9 = some (-1, S) := by
  unfold j_t_insert
  rcases hb with e | ⟨e, h⟩
  · rw [e, Option.bind_some, if_pos rfl]
  · rw [e, Option.bind_some, if_neg (by decide), if_neg h]
theorem key_node {P : Nat → PX} {K : Bool → Nat → Option Nat} {U : List Nat} (hS : Str P K U) (hpm : (RL S P U).Perm R) {n : Nat} (hn : n ∈ U) : rt S n = true ↔ ∃ h0, (P n, h0) ∈ R := by
  constructor
  · intro h; exact ⟨_, of_node hpm hn h⟩
  · rintro ⟨h0, hm⟩
    obtain ⟨m, h1, h2, h3⟩ := node_of hpm hm
    have e := hS.inj hn h1 (Prod.mk.inj h3).1
    subst e; exact h2
theorem tr_ins_old (h : Tr S R) {T : PX} (hT : VP T) (hp : j_t_isPrefix T.1 (nI T.2) = some 1) {h9 : Int32} (hh : 0 ≤ h9) (hk : ∃ h0, (T, h0) ∈ R) : ∃ S', j_t_insert S T.1 (nI T.2) h9 = some (0, S') ∧ Tr S' (R.map (fun r => if r.1 = T then (T, h9) else r)) := by
  obtain ⟨P, K, U, F, ⟨hS, hR, hF, hH, hP, hC⟩, hpm⟩ := h
  obtain ⟨h0, hm⟩ := hk
  obtain ⟨n, hn, hrn, e⟩ := node_of hpm hm
  have ePn : P n = T := (Prod.mk.inj e).1.symm
  have hn1 := hR.lt hn
  have h9r := ge0_ne hh
  unfold j_t_insert
  rw [hp, Option.bind_some, if_neg (by decide), if_pos hh]
  rcases find_eq hS hR hT with ⟨n', hn', e', ef⟩ | ⟨hno, ef⟩
  · have e2 := hS.inj hn' hn (e'.trans ePn.symm)
    subst e2
    rw [ef, Option.bind_some, if_neg (m1_nI (by omega)), gd_ok (ok_nI hn1 (by decide)), cl_nI hn1, if_neg (rt_t.mp hrn)]
    have hrt : rt (uH S n' h9) = rt S := by
      funext m
      show decide (¬ upd (sH S) n' h9 m = -1) = _
      by_cases q : m = n'
      · subst q; rw [upd_s, decide_eq_true h9r, hrn]
      · rw [upd_n _ _ q]; rfl
    refine ⟨_, rfl, P, K, U, F, ⟨hS, hR, hF, fun m hmU => ?_, fun m hmU hm0 hr => ?_, fun m hmU => ?_⟩, ?_⟩
    · show upd (sH S) n' h9 m = -1 ∨ 0 ≤ upd (sH S) n' h9 m
      by_cases q : m = n'
      · rw [q, upd_s]; exact Or.inr hh
      · rw [upd_n _ _ q]; exact hH m hmU
    · rw [hrt] at hr; exact hP m hmU hm0 hr
    · show sW S m = nI (U.countP (fun m' => rt (uH S n' h9) m' && decide (ple (P m) (P m'))))
      rw [hrt]; exact hC m hmU
    · have e3 : RL (uH S n' h9) P U = (RL S P U).map (fun r => if r.1 = T then (T, h9) else r) := by
        unfold RL
        rw [hrt, List.map_map]
        refine List.map_congr_left (fun m hmm => ?_)
        have hmU := (List.mem_filter.mp hmm).1
        show (P m, upd (sH S) n' h9 m) = if P m = T then (T, h9) else (P m, sH S m)
        by_cases q : m = n'
        · subst q; rw [upd_s, if_pos e', e']
        · rw [upd_n _ _ q, if_neg (fun w => q (hS.inj hmU hn' (w.trans e'.symm)))]
      rw [e3]
      exact hpm.map _
  · exact absurd ePn (hno n hn)
/-- a node becomes a route: its place among the routes -/
theorem flt_add {p : Nat → Bool} {n : Nat} (hp : p n = false) : ∀ {U : List Nat}, U.Nodup → n ∈ U → (U.filter (fun m => p m || decide (m = n))).Perm (n :: U.filter p)
  | [], _, h => absurd h List.not_mem_nil
  | a :: U, hn, h => by
    rw [List.nodup_cons] at hn
    rw [List.filter_cons, List.filter_cons]
    by_cases e : a = n
    · subst e
      rw [if_pos (by simp), if_neg (by rw [hp]; decide)]
      have : U.filter (fun m => p m || decide (m = a)) = U.filter p := List.filter_congr (fun m hm => by
        rw [decide_eq_false (show ¬ m = a from fun q => hn.1 (q ▸ hm)), Bool.or_false])
      rw [this]
    · rw [List.mem_cons] at h
      have ih := flt_add hp hn.2 (h.resolve_left (fun q => e q.symm))
      rw [decide_eq_false e, Bool.or_false]
      cases hpa : p a
      · rw [if_neg (by decide), if_neg (by decide)]; exact ih
      · rw [if_pos rfl, if_pos rfl]
        exact (ih.cons a).trans (List.Perm.swap _ _ _)
theorem tr_ins_full (h : Tr S R) {T : PX} (hT : VP T) (hp : j_t_isPrefix T.1 (nI T.2) = some 1) {h9 : Int32} (hh : 0 ≤ h9) (hk : ∀ h0, (T, h0) ∉ R) (hf : R.length = 500) : j_t_insert S T.1 (nI T.2) h9 = some (-2, S) := by
  obtain ⟨P, K, U, F, ⟨hS, hR, hF, hH, hP, hC⟩, hpm⟩ := h
  have e0 : sW S (cl 0) = 500 := by
    rw [show cl 0 = 0 from by decide, hC 0 hS.z, rc_0 hS hpm, hf]; rfl
  unfold j_t_insert
  rw [hp, Option.bind_some, if_neg (by decide), if_pos hh]
  rcases find_eq hS hR hT with ⟨n, hn, e, ef⟩ | ⟨hno, ef⟩
  · have hn1 := hR.lt hn
    have hr : sH S n = -1 := by
      apply Classical.byContradiction
      intro q
      obtain ⟨h0, hm⟩ := (key_node hS hpm hn).mp (rt_t.mpr q)
      rw [e] at hm
      exact hk h0 hm
    rw [ef, Option.bind_some, if_neg (m1_nI (by omega)), gd_ok (ok_nI hn1 (by decide)), cl_nI hn1, if_pos hr, gd_ok (by decide), if_pos e0]
  · rw [ef, Option.bind_some, if_pos rfl, gd_ok (by decide), if_pos e0]
theorem tr_ins_new (h : Tr S R) {T : PX} (hT : VP T) (hp : j_t_isPrefix T.1 (nI T.2) = some 1) {h9 : Int32} (hh : 0 ≤ h9) (hk : ∀ h0, (T, h0) ∉ R) (hf : R.length < 500) (hB : ∀ Ns : List PX, Ns.Nodup → (∀ x, x ∈ Ns → NS R x) → Ns.length ≤ 2 * R.length) : ∃ S', j_t_insert S T.1 (nI T.2) h9 = some (1, S') ∧ Tr S' ((T, h9) :: R) := by
  obtain ⟨P, K, U, F, ⟨hS, hR, hF, hH, hP, hC⟩, hpm⟩ := h
  have h9r := ge0_ne hh
  have e0 : ¬ sW S (cl 0) = 500 := by
    rw [show cl 0 = 0 from by decide, hC 0 hS.z, rc_0 hS hpm]
    intro q
    have := (nI_eq (a := R.length) (b := 500) (by omega) (by omega)).mp q
    omega
  have hroom := tr_room hS hP hpm hB
  unfold j_t_insert
  rw [hp, Option.bind_some, if_neg (by decide), if_pos hh]
  rcases find_eq hS hR hT with ⟨n, hn, e, ef⟩ | ⟨hno, ef⟩
  · have hn1 := hR.lt hn
    have hr : sH S n = -1 := by
      apply Classical.byContradiction
      intro q
      obtain ⟨h0, hm⟩ := (key_node hS hpm hn).mp (rt_t.mpr q)
      rw [e] at hm
      exact hk h0 hm
    rw [ef, Option.bind_some, if_neg (m1_nI (by omega)), gd_ok (ok_nI hn1 (by decide)), cl_nI hn1, if_pos hr, gd_ok (by decide), if_neg e0]
    have hR1 : Rep (uH S n h9) P K U := hR
    obtain ⟨S', t0, t1, t2, t3, t4, t5, t6, t7, t8⟩ := tell_eq hS hR1 hn 1
    rw [e] at t0
    rw [t0, Option.bind_some]
    have hrt : ∀ m, rt S' m = (rt S m || decide (m = n)) := by
      intro m
      show decide (¬ sH S' m = -1) = _
      rw [t3]
      show decide (¬ upd (sH S) n h9 m = -1) = _
      by_cases q : m = n
      · subst q; rw [upd_s, decide_eq_true h9r, decide_eq_true (rfl : m = m), Bool.or_true]
      · rw [upd_n _ _ q, decide_eq_false q, Bool.or_false]; rfl
    have hrn := rt_f.mpr hr
    refine ⟨S', rfl, P, K, U, F, ⟨hS, hR1.cg t1 t2 t4 t5, hF.cg t4 t6 t7, fun m hmU => ?_, fun m hmU hm0 hrm => ?_, fun m hmU => ?_⟩, ?_⟩
    · rw [t3]
      show upd (sH S) n h9 m = -1 ∨ 0 ≤ upd (sH S) n h9 m
      by_cases q : m = n
      · rw [q, upd_s]; exact Or.inr hh
      · rw [upd_n _ _ q]; exact hH m hmU
    · rw [hrt, Bool.or_eq_false_iff] at hrm
      exact hP m hmU hm0 hrm.1
    · rw [t8 m hmU]
      show (if ple (P m) (P n) then sW S m + 1 else sW S m) = _
      have same : ∀ m', m' ∈ U → m' ≠ n → (rt S' m' && decide (ple (P m) (P m'))) = (rt S m' && decide (ple (P m) (P m'))) := fun m' _ q => by rw [hrt, decide_eq_false q, Bool.or_false]
      by_cases q : ple (P m) (P n)
      · rw [if_pos q, hC m hmU, nI_1]
        congr 1
        exact (cnt_one hS.nd hn same (by rw [hrn]; rfl) (by rw [hrt, decide_eq_true (rfl : n = n), Bool.or_true, decide_eq_true q]; rfl)).symm
      · rw [if_neg q, hC m hmU]
        congr 1
        refine (cnt_cg (fun m' hm' => ?_)).symm
        by_cases w : m' = n
        · subst w; rw [decide_eq_false q, Bool.and_false, Bool.and_false]
        · exact same m' hm' w
    · have p1 : (RL S' P U).Perm ((T, h9) :: RL S P U) := by
        unfold RL
        have e1 : U.filter (rt S') = U.filter (fun m => rt S m || decide (m = n)) := List.filter_congr (fun m _ => hrt m)
        rw [e1]
        have p2 := (flt_add hrn hS.nd hn).map (fun m => (P m, sH S' m))
        rw [List.map_cons] at p2
        have e2 : (P n, sH S' n) = (T, h9) := by rw [t3, e]; exact congrArg (Prod.mk T) (upd_s _ _ _)
        have e3 : (U.filter (rt S)).map (fun m => (P m, sH S' m)) = (U.filter (rt S)).map (fun m => (P m, sH S m)) := List.map_congr_left (fun m hm => by
          have hm2 := (List.mem_filter.mp hm).2
          have hne : m ≠ n := fun q => by rw [q, hrn] at hm2; cases hm2
          rw [t3]; exact congrArg (Prod.mk (P m)) (upd_n _ _ hne))
        rw [e2, e3] at p2
        exact p2
      exact p1.trans (hpm.cons _)
  · rw [ef, Option.bind_some, if_pos rfl, gd_ok (by decide), if_neg e0]
    obtain ⟨S1, P1, K1, U1, F1, x, m0, m1, m2, m3, m4, m5, m6, m7, m8, m9, m10⟩ := enter_eq hS hR hF (by omega) hT hno hC hH hP hh
    rw [m0, Option.bind_some]
    obtain ⟨S', t0, t1, t2, t3, t4, t5, t6, t7, t8⟩ := tell_eq m1 m2 m6 1
    rw [m7] at t0
    rw [t0, Option.bind_some]
    refine ⟨S', rfl, P1, K1, U1, F1, ⟨m1, m2.cg t1 t2 t4 t5, m3.cg t4 t6 t7, fun m hmU => by rw [t3]; exact m4 m hmU, fun m hmU hm0 hrm => by rw [rt_cg t3] at hrm; exact m5 m hmU hm0 hrm, fun m hmU => ?_⟩, ?_⟩
    · rw [t8 m hmU, m8 m hmU, rc_cg t3, m9, m7]
      by_cases q : ple (P1 m) T
      · rw [if_pos q, if_pos q, nI_1]
      · rw [if_neg q, if_neg q]; rfl
    · rw [RL_cg t3, m10]
      exact hpm.cons _
theorem tr_rem_bad {p x : Int32} (hb : j_t_isPrefix p x = some 0) : j_t_remove S p x = some (0, S) := by
  unfold j_t_remove
  rw [hb, Option.bind_some, if_pos rfl]
theorem tr_rem_no (h : Tr S R) {T : PX} (hT : VP T) (hp : j_t_isPrefix T.1 (nI T.2) = some 1) (hk : ∀ h0, (T, h0) ∉ R) : j_t_remove S T.1 (nI T.2) = some (0, S) := by
  obtain ⟨P, K, U, F, ⟨hS, hR, hF, hH, hP, hC⟩, hpm⟩ := h
  unfold j_t_remove
  rw [hp, Option.bind_some, if_neg (by decide)]
  rcases find_eq hS hR hT with ⟨n, hn, e, ef⟩ | ⟨hno, ef⟩
  · have hn1 := hR.lt hn
    have hr : sH S n = -1 := by
      apply Classical.byContradiction
      intro q
      obtain ⟨h0, hm⟩ := (key_node hS hpm hn).mp (rt_t.mpr q)
      rw [e] at hm
      exact hk h0 hm
    rw [ef, Option.bind_some, if_neg (m1_nI (by omega)), gd_ok (ok_nI hn1 (by decide)), cl_nI hn1, if_pos hr]
  · rw [ef, Option.bind_some, if_pos rfl]
theorem tr_rem_yes (h : Tr S R) {T : PX} (hT : VP T) (hp : j_t_isPrefix T.1 (nI T.2) = some 1) (hk : ∃ h0, (T, h0) ∈ R) : ∃ S', j_t_remove S T.1 (nI T.2) = some (1, S') ∧ Tr S' (R.filter (fun r => decide (r.1 ≠ T))) := by
  obtain ⟨P, K, U, F, ⟨hS, hR, hF, hH, hP, hC⟩, hpm⟩ := h
  obtain ⟨h0, hm⟩ := hk
  obtain ⟨n0, hn0, hrn0, e0⟩ := node_of hpm hm
  have ePn : P n0 = T := (Prod.mk.inj e0).1.symm
  unfold j_t_remove
  rw [hp, Option.bind_some, if_neg (by decide)]
  rcases find_eq hS hR hT with ⟨n, hn, e, ef⟩ | ⟨hno, ef⟩
  · have e2 := hS.inj hn0 hn (ePn.trans e.symm)
    subst e2
    have hn1 := hR.lt hn
    have hb := hF.len
    rw [ef, Option.bind_some, if_neg (m1_nI (by omega)), gd_ok (ok_nI hn1 (by decide)), cl_nI hn1, if_neg (rt_t.mp hrn0)]
    obtain ⟨S1, t0, t1, t2, t3, t4, t5, t6, t7, t8⟩ := tell_eq hS hR hn (-1)
    rw [e] at t0
    rw [t0, Option.bind_some]
    have hR1 : Rep (uH S1 n0 (-1)) P K U := hR.cg t1 t2 t4 t5
    have hF1 : Fre (uH S1 n0 (-1)) U F := hF.cg t4 t6 t7
    have hrt : ∀ m, rt (uH S1 n0 (-1)) m = (rt S m && decide (m ≠ n0)) := by
      intro m
      show decide (¬ upd (sH S1) n0 (-1) m = -1) = _
      rw [t3]
      by_cases q : m = n0
      · subst q; rw [upd_s, decide_eq_false (fun w => w rfl), decide_eq_false (fun w => w rfl), Bool.and_false]
      · rw [upd_n _ _ q, decide_eq_true q, Bool.and_true]; rfl
    have hH1 : Hop (uH S1 n0 (-1)) U := by
      intro m hmU
      show upd (sH S1) n0 (-1) m = -1 ∨ 0 ≤ upd (sH S1) n0 (-1) m
      by_cases q : m = n0
      · rw [q, upd_s]; exact Or.inl rfl
      · rw [upd_n _ _ q, t3]; exact hH m hmU
    have hC1 : Cnt (uH S1 n0 (-1)) P U := by
      intro m hmU
      show sW S1 m = _
      rw [t8 m hmU]
      have same : ∀ m', m' ∈ U → m' ≠ n0 → (rt S m' && decide (ple (P m) (P m'))) = (rt (uH S1 n0 (-1)) m' && decide (ple (P m) (P m'))) := fun m' _ q => by rw [hrt, decide_eq_true q, Bool.and_true]
      by_cases q : ple (P m) (P n0)
      · have c1 : rc S P U (P m) = rc (uH S1 n0 (-1)) P U (P m) + 1 := cnt_one hS.nd hn same (by rw [hrt, decide_eq_false (fun w => w rfl), Bool.and_false]; rfl) (by rw [hrn0, decide_eq_true q]; rfl)
        rw [if_pos q, hC m hmU, c1, pk_m1]
      · rw [if_neg q, hC m hmU]
        congr 1
        refine cnt_cg (fun m' hm' => ?_)
        by_cases w : m' = n0
        · subst w; rw [decide_eq_false q, Bool.and_false, Bool.and_false]
        · exact same m' hm' w
    have hP1 : ∀ m, m ∈ U → m ≠ 0 → m ≠ n0 → rt (uH S1 n0 (-1)) m = false → K false m ≠ none ∧ K true m ≠ none := by
      intro m hmU hm0 hmn hrm
      rw [hrt, decide_eq_true hmn, Bool.and_true] at hrm
      exact hP m hmU hm0 hrm
    obtain ⟨S', K', U', F', g1, g2, g3⟩ := settle_eq 40 _ K U F n0 hS hR1 hF1 hH1 hC1 hP1 hn (by have := (hS.vp hn).1; omega)
    rw [g1, Option.bind_some]
    refine ⟨S', rfl, P, K', U', F', g2, ?_⟩
    rw [g3]
    have e3 : RL (uH S1 n0 (-1)) P U = (RL S P U).filter (fun r => decide (r.1 ≠ T)) := by
      unfold RL
      rw [List.filter_map, List.filter_filter]
      have e4 : U.filter (rt (uH S1 n0 (-1))) = U.filter (fun a => ((fun r : PX × Int32 => decide (r.1 ≠ T)) ∘ fun n => (P n, sH S n)) a && rt S a) := List.filter_congr (fun m hmU => by
        rw [hrt, Bool.and_comm]
        congr 1
        show decide (m ≠ n0) = decide (P m ≠ T)
        by_cases q : m = n0
        · rw [decide_eq_false (show ¬ m ≠ n0 from fun w => w q), decide_eq_false (show ¬ P m ≠ T from fun w => w (by rw [q]; exact ePn))]
        · rw [decide_eq_true (show m ≠ n0 from q), decide_eq_true (show P m ≠ T from fun w => q (hS.inj hmU hn (w.trans ePn.symm)))])
      rw [← e4]
      refine List.map_congr_left (fun m hmm => ?_)
      have h2 := (List.mem_filter.mp hmm).2
      rw [hrt, Bool.and_eq_true, decide_eq_true_eq] at h2
      show (P m, upd (sH S1) n0 (-1) m) = _
      rw [upd_n _ _ h2.2, t3]
    rw [e3]
    exact hpm.filter _
  · exact absurd ePn (hno n0 hn0)
-- init
theorem fl_init {z : Nat → Int32} : ∀ (m i : Nat), i + m = 1001 → (∀ j, i ≤ j → j < 1001 → z j = if j + 1 < 1001 then nI (j + 1) else -1) → fl z (if i < 1001 then nI i else -1) (List.range' i m)
  | 0, i, hi, _ => by
    rw [if_neg (by omega)]; rfl
  | m + 1, i, hi, hz => by
    rw [if_pos (by omega), List.range'_succ]
    refine ⟨rfl, by omega, ?_⟩
    rw [hz i (Nat.le_refl _) (by omega)]
    exact fl_init m (i + 1) (by omega) (fun j h1 h2 => hz j (by omega) h2)
theorem init_end {S0 : TS} (hz : ∀ j, j < 1001 → sZ S0 j = if j + 1 < 1001 then nI (j + 1) else -1) : ∃ S', (j_t_make (uU (uF S0 0) 0) 0 0 (-1)).bind (fun q => some q.2) = some S' ∧ Tr S' [] := by
  have hF : Fre (uU (uF S0 0) 0) [] (0 :: List.range' 1 1000) := by
    have h1 := fl_init (z := sZ S0) 1001 0 (by omega) (fun j _ h => hz j h)
    rw [if_pos (by omega), nI_0] at h1
    refine ⟨h1, ?_, fun x _ => List.not_mem_nil, ?_, rfl⟩
    · have := List.nodup_range' (s := 0) (n := 1001) (step := 1)
      exact this
    · rw [List.length_cons, List.length_range']; rfl
  obtain ⟨S', m1, hx1, hxU, mB, mL, mH, mZ, mO, mW, hF1⟩ := make_eq hF 0 0 (-1)
  refine ⟨S', by rw [m1]; rfl, fun _ => (0, 0), fun _ _ => none, [0], List.range' 1 1000, ⟨?_, ?_, hF1, ?_, ?_, ?_⟩, ?_⟩
  · refine ⟨List.nodup_cons.mpr ⟨List.not_mem_nil, List.nodup_nil⟩, List.mem_cons_self, rfl, fun n _ => ⟨Nat.zero_le _, fun i _ _ => mb_0 i⟩, fun m hm n hn _ => ?_, fun n _ d _ m _ q => Nat.lt_irrefl _ q.1, fun n _ d c q => by cases q⟩
    rw [List.mem_singleton] at hm hn
    rw [hm, hn]
  · intro n hn
    rw [List.mem_singleton] at hn
    subst hn
    refine ⟨by omega, ?_, ?_, ?_, ?_⟩
    · rw [mB, upd_s]
    · rw [mL, upd_s]; rfl
    · rw [mZ, upd_s]; rfl
    · rw [mO, upd_s]; rfl
  · intro n hn
    rw [List.mem_singleton] at hn
    rw [mH, hn, upd_s]; exact Or.inl rfl
  · intro n hn h0
    rw [List.mem_singleton] at hn
    exact absurd hn h0
  · intro n hn
    rw [List.mem_singleton] at hn
    subst hn
    rw [mW, upd_s]
    have : rc S' (fun _ => ((0, 0) : PX)) [0] (0, 0) = 0 := cnt_0 (fun m hm => by
      rw [List.mem_singleton] at hm
      rw [rt_f.mpr (by rw [mH, hm, upd_s])]; rfl)
    rw [this, nI_0]
  · unfold RL
    rw [List.filter_cons, rt_f.mpr (by rw [mH, upd_s]), if_neg (by decide)]
    exact List.Perm.refl _
theorem init_loop : ∀ (k i : Nat) (S : TS), i ≤ 1001 → 1002 ≤ k + i → (∀ j, j < i → sZ S j = if j + 1 < 1001 then nI (j + 1) else -1) → ∃ S', L_t_init_2 k S (nI i) = some S' ∧ Tr S' [] := by
  intro k
  induction k with
  | zero => intro i S hi hk _; omega
  | succ k ih =>
    intro i S hi hk hz
    rw [L_t_init_2]
    by_cases h : i = 1001
    · subst h
      rw [if_pos (show (1001 : Int32) ≤ nI 1001 from by decide)]
      exact init_end hz
    · have hlt : i < 1001 := by omega
      rw [if_neg (show ¬ (1001 : Int32) ≤ nI i from nI_ge (b := 1001) hlt (by omega)), nI_1, gd_ok (ok_nI hlt (by decide)), gd_ok (ok_nI hlt (by decide)), cl_nI hlt]
      have nxt : ∀ v : Int32, v = (if i + 1 < 1001 then nI (i + 1) else -1) → ∃ S', L_t_init_2 k (uZ S i v) (nI (i + 1)) = some S' ∧ Tr S' [] := by
        intro v hv
        refine ih (i + 1) _ (by omega) (by omega) (fun j hj => ?_)
        show upd (sZ S) i v j = _
        by_cases q : j = i
        · subst q; rw [upd_s]; exact hv
        · rw [upd_n _ _ q]; exact hz j (by omega)
      by_cases h2 : i + 1 < 1001
      · rw [if_neg (show ¬ (1001 : Int32) ≤ nI (i + 1) from nI_ge (b := 1001) h2 (by omega))]
        exact nxt _ (by rw [if_pos h2])
      · rw [if_pos (show (1001 : Int32) ≤ nI (i + 1) from nI_le (a := 1001) (by omega) (by omega))]
        exact nxt _ (by rw [if_neg h2])
theorem tr_init (S : TS) : ∃ S', j_t_init S = some S' ∧ Tr S' [] := by
  unfold j_t_init
  have h := init_loop FU 0 S (by omega) (by unfold FU; omega) (fun j hj => absurd hj (Nat.not_lt_zero _))
  rw [nI_0] at h
  exact h
end
end
section
-- THE MODEL AS A LIST OF ROUTES, in order
def Cell1 (M : MS) (k : Nat) (r : PX × Int32) : Prop := mB M k = r.1.1 ∧ mL M k = nI r.1.2 ∧ mH M k = r.2
def Srt (R : List (PX × Int32)) : Prop := (∀ r, r ∈ R → VP r.1) ∧ R.Pairwise (fun a b => bf a.1 b.1)
def Mo (M : MS) (R : List (PX × Int32)) : Prop := R.length ≤ 500 ∧ mN M = nI R.length ∧ (∀ k r, R[k]? = some r → Cell1 M k r) ∧ Srt R
theorem cl5 {n : Nat} (h : n < 2 ^ 31) : cl (nI n) = n := nI_clamp h
section
variable {M : MS} {R : List (PX × Int32)}
theorem Mo.k (h : Mo M R) (x : Int32) : Mo (vK M x) R := h
theorem get_lt {k : Nat} {r : PX × Int32} (h : R[k]? = some r) : k < R.length := (List.getElem?_eq_some_iff.mp h).1
theorem get_some {k : Nat} (h : k < R.length) : ∃ r, R[k]? = some r := ⟨_, List.getElem?_eq_getElem h⟩
theorem Srt.lt (h : Srt R) {i j : Nat} {a b : PX × Int32} (hij : i < j) (ha : R[i]? = some a) (hb : R[j]? = some b) : bf a.1 b.1 := by
  obtain ⟨hi, rfl⟩ := List.getElem?_eq_some_iff.mp ha
  obtain ⟨hj, rfl⟩ := List.getElem?_eq_some_iff.mp hb
  exact List.pairwise_iff_getElem.mp h.2 i j hi hj hij
theorem Srt.key (h : Srt R) {i j : Nat} {a b : PX × Int32} (ha : R[i]? = some a) (hb : R[j]? = some b) (e : a.1 = b.1) : i = j := by
  rcases Nat.lt_trichotomy i j with q | q | q
  · have := h.lt q ha hb; rw [e] at this; exact absurd this (bf_ir _)
  · exact q
  · have := h.lt q hb ha; rw [e] at this; exact absurd this (bf_ir _)
theorem Srt.uniq (h : Srt R) {a b : PX × Int32} (ha : a ∈ R) (hb : b ∈ R) (e : a.1 = b.1) : a = b := by
  obtain ⟨i, hi⟩ := List.getElem?_of_mem ha
  obtain ⟨j, hj⟩ := List.getElem?_of_mem hb
  have := h.key hi hj e
  subst this
  exact Option.some.inj (hi.symm.trans hj)
theorem mfind_lp (h : Mo M R) (p x : Int32) : ∀ (f k : Nat), k ≤ R.length → R.length + 1 ≤ f + k → (∀ j, j < k → ∀ r, R[j]? = some r → ¬ (r.1.1 = p ∧ nI r.1.2 = x)) → (∃ i r, R[i]? = some r ∧ r.1.1 = p ∧ nI r.1.2 = x ∧ L_m_find_2 M p x f (nI k) = some (nI i)) ∨ ((∀ r, r ∈ R → ¬ (r.1.1 = p ∧ nI r.1.2 = x)) ∧ L_m_find_2 M p x f (nI k) = some (-1)) := by
  intro f
  induction f with
  | zero => intro k hk hf _; omega
  | succ f ih =>
    intro k hk hf hno
    have hlen := h.1
    rw [L_m_find_2, h.2.1]
    by_cases hlt : k < R.length
    · obtain ⟨r, hr⟩ := get_some hlt
      obtain ⟨c1, c2, c3⟩ := h.2.2.1 k r hr
      rw [if_neg (nI_ge hlt (by omega)), gd_ok (ok_nI (show k < 500 by omega) (by decide)), cl5 (by omega), c1, c2, nI_1]
      have next : ¬ (r.1.1 = p ∧ nI r.1.2 = x) → (∃ i r, R[i]? = some r ∧ r.1.1 = p ∧ nI r.1.2 = x ∧ L_m_find_2 M p x f (nI (k + 1)) = some (nI i)) ∨ ((∀ r, r ∈ R → ¬ (r.1.1 = p ∧ nI r.1.2 = x)) ∧ L_m_find_2 M p x f (nI (k + 1)) = some (-1)) := by
        intro hn
        refine ih (k + 1) (by omega) (by omega) (fun j hj r' hr' => ?_)
        by_cases e : j = k
        · subst e
          rw [hr] at hr'; cases hr'; exact hn
        · exact hno j (by omega) r' hr'
      by_cases e1 : r.1.1 = p
      · rw [if_pos e1]
        by_cases e2 : nI r.1.2 = x
        · rw [if_pos e2]
          exact Or.inl ⟨k, r, hr, e1, e2, rfl⟩
        · rw [if_neg e2]; exact next (fun q => e2 q.2)
      · rw [if_neg e1]; exact next (fun q => e1 q.1)
    · rw [if_pos (nI_le (by omega) (by omega))]
      right
      refine ⟨fun r hr => ?_, rfl⟩
      obtain ⟨j, hj⟩ := List.getElem?_of_mem hr
      exact hno j (by have := get_lt hj; omega) r hj
theorem mfind_eq (h : Mo M R) (p x : Int32) : (∃ i r, R[i]? = some r ∧ r.1.1 = p ∧ nI r.1.2 = x ∧ j_m_find M p x = some (nI i)) ∨ ((∀ r, r ∈ R → ¬ (r.1.1 = p ∧ nI r.1.2 = x)) ∧ j_m_find M p x = some (-1)) := by
  unfold j_m_find
  have h1 := mfind_lp h p x FU 0 (Nat.zero_le _) (by have := h.1; unfold FU; omega) (fun j hj => absurd hj (Nat.not_lt_zero _))
  rw [nI_0] at h1
  exact h1
theorem key_iff (h : Mo M R) {r : PX × Int32} (hr : r ∈ R) {T : PX} (hT : VP T) : (r.1.1 = T.1 ∧ nI r.1.2 = nI T.2) ↔ r.1 = T := by
  have h1 := (h.2.2.2.1 r hr).1
  have h2 := hT.1
  constructor
  · intro q; exact Prod.ext q.1 ((nI_eq (by omega) (by omega)).mp q.2)
  · intro q; rw [q]; exact ⟨rfl, rfl⟩
theorem mo_exact (h : Mo M R) (p x : Int32) : ∃ y M', j_m_exact M p x = some (y, M') ∧ Mo M' R ∧ ((∃ r, r ∈ R ∧ r.1.1 = p ∧ nI r.1.2 = x ∧ y = r.2) ∨ ((∀ r, r ∈ R → ¬ (r.1.1 = p ∧ nI r.1.2 = x)) ∧ y = -1)) := by
  unfold j_m_exact
  rcases mfind_eq (h.k 0) p x with ⟨i, r, hr, e1, e2, ef⟩ | ⟨hno, ef⟩
  · have hi := get_lt hr
    have hl := h.1
    rw [ef, Option.bind_some, if_neg (m1_nI (by omega)), gd_ok (ok_nI (show i < 500 by omega) (by decide)), cl5 (by omega)]
    exact ⟨_, _, rfl, h.k 0, Or.inl ⟨r, List.mem_of_getElem? hr, e1, e2, (h.2.2.1 i r hr).2.2⟩⟩
  · rw [ef, Option.bind_some, if_pos rfl]
    exact ⟨_, _, rfl, h.k 0, Or.inr ⟨hno, rfl⟩⟩
theorem mo_count (h : Mo M R) : ∃ M', j_m_count M = some (nI R.length, M') ∧ Mo M' R := ⟨vK M 0, by unfold j_m_count; rw [(h.k 0).2.1], h.k 0⟩
theorem mo_init (M : MS) : ∃ M', j_m_init M = some M' ∧ Mo M' [] := ⟨_, rfl, Nat.zero_le _, rfl, fun k r hr => by simp at hr, fun r hr => absurd hr List.not_mem_nil, List.Pairwise.nil⟩
theorem mo_route (h : Mo M R) (x1 x2 : Int32) : (∃ j r, x1 = nI j ∧ R[j]? = some r ∧ ∃ M', j_m_route M x1 x2 = some (sel x2 r, M') ∧ Mo M' R) ∨ ((x1 < 0 ∨ ¬ x1 < nI R.length) ∧ ∃ M', j_m_route M x1 x2 = some (0, M') ∧ Mo M' R) := by
  have hl := h.1
  unfold j_m_route
  by_cases h0 : x1 < 0
  · rw [if_pos h0]; exact Or.inr ⟨Or.inl h0, _, rfl, h.k 0⟩
  · rw [if_neg h0, (h.k 0).2.1]
    by_cases h1 : x1 < nI R.length
    · rw [if_pos h1]
      obtain ⟨j, hj, rfl⟩ := nI_of h0
      have hj2 := (nI_ltI hj (by omega)).mp h1
      obtain ⟨r, hr⟩ := get_some hj2
      obtain ⟨c1, c2, c3⟩ := (h.k 0).2.2.1 j r hr
      rw [gd_ok (ok_nI (show j < 500 by omega) (by decide)), gd_ok (ok_nI (show j < 500 by omega) (by decide)), gd_ok (ok_nI (show j < 500 by omega) (by decide)), cl5 hj, c1, c2, c3]
      left
      refine ⟨j, r, rfl, hr, vK M 0, ?_, h.k 0⟩
      unfold sel
      split
      · rfl
      · split
        · rfl
        · split <;> rfl
    · rw [if_neg h1]; exact Or.inr ⟨Or.inr h1, _, rfl, h.k 0⟩
-- begins
theorem mbeg_eq (v : Int32) {x : PX} (hx : VP x) : j_m_begins v x.1 (nI x.2) = some (if bg v x then 1 else 0) := by
  unfold j_m_begins
  rw [mmask_eq hx.1, Option.bind_some]
  by_cases h : bg v x
  · rw [if_pos ((and_msk hx).mpr h), if_pos h]
  · rw [if_neg (fun q => h ((and_msk hx).mp q)), if_neg h]
theorem take_succ_get {k : Nat} {r : PX × Int32} (h : R[k]? = some r) : R.take (k + 1) = R.take k ++ [r] := by
  rw [List.take_add_one, h]; rfl
theorem munder_lp (h : Mo M R) {T : PX} (hT : VP T) : ∀ (f k : Nat), k ≤ R.length → R.length + 1 ≤ f + k → L_m_under_20 T.1 (nI T.2) f M (nI ((R.take k).countP (fun r => decide (ple T r.1)))) (nI k) = some (nI (R.countP (fun r => decide (ple T r.1))), M) := by
  intro f
  induction f with
  | zero => intro k hk hf; omega
  | succ f ih =>
    intro k hk hf
    have hlen := h.1
    rw [L_m_under_20, h.2.1]
    by_cases hlt : k < R.length
    · obtain ⟨r, hr⟩ := get_some hlt
      obtain ⟨c1, c2, c3⟩ := h.2.2.1 k r hr
      have hv := h.2.2.2.1 r (List.mem_of_getElem? hr)
      have hv1 := hv.1
      have hT1 := hT.1
      have ih := ih (k + 1) (by omega) (by omega)
      rw [take_succ_get hr, List.countP_append, List.countP_singleton] at ih
      rw [if_neg (nI_ge hlt (by omega)), gd_ok (ok_nI (show k < 500 by omega) (by decide)), cl5 (by omega), c1, c2, nI_1]
      by_cases hl : r.1.2 < T.2
      · rw [if_pos (nI_lt hl (by omega)), Int32.add_zero]
        rw [decide_eq_false (show ¬ ple T r.1 from fun q => by have := q.1; omega)] at ih
        exact ih
      · rw [if_neg (nI_nlt (by omega) (by omega)), mbeg_eq _ hT, Option.bind_some]
        by_cases hb : bg r.1.1 T
        · rw [if_pos hb, if_neg (by decide), nI_1]
          rw [decide_eq_true (show ple T r.1 from ⟨by omega, fun i hi => (hb i hi).symm⟩)] at ih
          exact ih
        · rw [if_neg hb, if_pos rfl, Int32.add_zero]
          rw [decide_eq_false (show ¬ ple T r.1 from fun q => hb (fun i hi => (q.2 i hi).symm))] at ih
          exact ih
    · rw [if_pos (nI_le (by omega) (by omega)), List.take_of_length_le (by omega)]
theorem mo_under (h : Mo M R) {T : PX} (hT : VP T) (hp : j_t_isPrefix T.1 (nI T.2) = some 1) : ∃ M', j_m_under M T.1 (nI T.2) = some (nI (R.countP (fun r => decide (ple T r.1))), M') ∧ Mo M' R := by
  unfold j_m_under
  rw [mpre_eq, hp, Option.bind_some, if_neg (by decide)]
  have h1 := munder_lp (h.k 0) hT FU 0 (Nat.zero_le _) (by have := h.1; unfold FU; omega)
  rw [List.take_zero, List.countP_nil, nI_0] at h1
  exact ⟨_, h1, h.k 0⟩
theorem mo_under_bad (h : Mo M R) {p x : Int32} (hp : j_t_isPrefix p x = some 0) : ∃ M', j_m_under M p x = some (-1, M') ∧ Mo M' R := by
  unfold j_m_under
  rw [mpre_eq, hp, Option.bind_some, if_pos rfl]
  exact ⟨_, rfl, h.k 0⟩
/-- longest: the best of the first k -/
def BJ (R : List (PX × Int32)) (v : Int32) (k : Nat) (best : Int32) : Prop := (best = -1 ∧ ∀ j r, j < k → R[j]? = some r → ¬ bg v r.1) ∨ ∃ b r, b < k ∧ R[b]? = some r ∧ best = nI b ∧ bg v r.1 ∧ ∀ j r', j < k → R[j]? = some r' → bg v r'.1 → r'.1.2 ≤ r.1.2
theorem mlong_lp (h : Mo M R) (v : Int32) : ∀ (f k : Nat) (best : Int32), k ≤ R.length → R.length + 1 ≤ f + k → BJ R v k best → ∃ y, L_m_longest_4 M v f best (nI k) = some y ∧ BJ R v R.length y := by
  intro f
  induction f with
  | zero => intro k best hk hf; omega
  | succ f ih =>
    intro k best hk hf hj
    have hlen := h.1
    rw [L_m_longest_4, h.2.1]
    by_cases hlt : k < R.length
    · obtain ⟨r, hr⟩ := get_some hlt
      obtain ⟨c1, c2, c3⟩ := h.2.2.1 k r hr
      have hv := h.2.2.2.1 r (List.mem_of_getElem? hr)
      have hv1 := hv.1
      rw [if_neg (nI_ge hlt (by omega)), gd_ok (ok_nI (show k < 500 by omega) (by decide)), cl5 (by omega), c1, c2, mbeg_eq v hv, Option.bind_some, nI_1]
      have last : ∀ j r', j < k + 1 → R[j]? = some r' → (j < k) ∨ r' = r := by
        intro j r' hj2 hr'
        by_cases e : j = k
        · subst e; right; exact Option.some.inj (hr'.symm.trans hr)
        · left; omega
      by_cases hb : bg v r.1
      · rw [if_pos hb, if_neg (by decide)]
        rcases hj with ⟨rfl, hj⟩ | ⟨b, rb, hbk, hrb, rfl, hgb, hmax⟩
        · rw [if_pos rfl]
          refine ih (k + 1) _ (by omega) (by omega) (Or.inr ⟨k, r, by omega, hr, rfl, hb, fun j r' hj2 hr' hg => ?_⟩)
          rcases last j r' hj2 hr' with q | q
          · exact absurd hg (hj j r' q hr')
          · rw [q]; exact Nat.le_refl _
        · have hvb := (h.2.2.2.1 rb (List.mem_of_getElem? hrb)).1
          rw [if_neg (m1_nI (by omega)), gd_ok (ok_nI (show b < 500 by omega) (by decide)), cl5 (by omega), (h.2.2.1 b rb hrb).2.1]
          by_cases hle : r.1.2 ≤ rb.1.2
          · rw [if_pos (nI_le hle (by omega))]
            refine ih (k + 1) _ (by omega) (by omega) (Or.inr ⟨b, rb, by omega, hrb, rfl, hgb, fun j r' hj2 hr' hg => ?_⟩)
            rcases last j r' hj2 hr' with q | q
            · exact hmax j r' q hr' hg
            · rw [q]; exact hle
          · rw [if_neg (nI_ge (by omega) (by omega))]
            refine ih (k + 1) _ (by omega) (by omega) (Or.inr ⟨k, r, by omega, hr, rfl, hb, fun j r' hj2 hr' hg => ?_⟩)
            rcases last j r' hj2 hr' with q | q
            · have := hmax j r' q hr' hg; omega
            · rw [q]; exact Nat.le_refl _
      · rw [if_neg hb, if_pos rfl]
        refine ih (k + 1) _ (by omega) (by omega) ?_
        rcases hj with ⟨rfl, hj⟩ | ⟨b, rb, hbk, hrb, rfl, hgb, hmax⟩
        · refine Or.inl ⟨rfl, fun j r' hj2 hr' => ?_⟩
          rcases last j r' hj2 hr' with q | q
          · exact hj j r' q hr'
          · rw [q]; exact hb
        · refine Or.inr ⟨b, rb, by omega, hrb, rfl, hgb, fun j r' hj2 hr' hg => ?_⟩
          rcases last j r' hj2 hr' with q | q
          · exact hmax j r' q hr' hg
          · rw [q] at hg; exact absurd hg hb
    · rw [if_pos (nI_le (by omega) (by omega))]
      have e : k = R.length := by omega
      subst e
      exact ⟨_, rfl, hj⟩
theorem mo_long (h : Mo M R) (v : Int32) : (j_m_longest M v = some (-1) ∧ ∀ r, r ∈ R → ¬ bg v r.1) ∨ ∃ b r, R[b]? = some r ∧ j_m_longest M v = some (nI b) ∧ bg v r.1 ∧ ∀ r', r' ∈ R → bg v r'.1 → r'.1.2 ≤ r.1.2 := by
  obtain ⟨y, e, hj⟩ := mlong_lp h v FU 0 (-1) (Nat.zero_le _) (by have := h.1; unfold FU; omega) (Or.inl ⟨rfl, fun j r hj => absurd hj (Nat.not_lt_zero _)⟩)
  rw [nI_0] at e
  unfold j_m_longest
  rcases hj with ⟨rfl, hj⟩ | ⟨b, r, hb, hr, rfl, hg, hmax⟩
  · left
    refine ⟨e, fun r hr => ?_⟩
    obtain ⟨j, hj2⟩ := List.getElem?_of_mem hr
    exact hj j r (get_lt hj2) hj2
  · right
    refine ⟨b, r, hr, e, hg, fun r' hr' hg' => ?_⟩
    obtain ⟨j, hj2⟩ := List.getElem?_of_mem hr'
    exact hmax j r' (get_lt hj2) hj2 hg'
theorem mo_lookup (h : Mo M R) (v : Int32) : ∃ y M', j_m_lookup M v = some (y, M') ∧ Mo M' R ∧ LK (fun r => r.2) R v y := by
  unfold j_m_lookup
  have hl := h.1
  rcases mo_long (h.k 0) v with ⟨e, hn⟩ | ⟨b, r, hr, e, hg, hmax⟩
  · exact ⟨-1, vK M 0, by rw [e, Option.bind_some, if_pos rfl], h.k 0, Or.inl ⟨rfl, hn⟩⟩
  · have hb := get_lt hr
    exact ⟨_, vK M 0, by rw [e, Option.bind_some, if_neg (m1_nI (by omega)), gd_ok (ok_nI (show b < 500 by omega) (by decide)), cl5 (by omega)]; rfl, h.k 0, Or.inr ⟨r, List.mem_of_getElem? hr, hg, hmax, (h.2.2.1 b r hr).2.2⟩⟩
theorem mo_lookupLen (h : Mo M R) (v : Int32) : ∃ y M', j_m_lookupLen M v = some (y, M') ∧ Mo M' R ∧ LK (fun r => nI r.1.2) R v y := by
  unfold j_m_lookupLen
  have hl := h.1
  rcases mo_long (h.k 0) v with ⟨e, hn⟩ | ⟨b, r, hr, e, hg, hmax⟩
  · exact ⟨-1, vK M 0, by rw [e, Option.bind_some, if_pos rfl], h.k 0, Or.inl ⟨rfl, hn⟩⟩
  · have hb := get_lt hr
    exact ⟨_, vK M 0, by rw [e, Option.bind_some, if_neg (m1_nI (by omega)), gd_ok (ok_nI (show b < 500 by omega) (by decide)), cl5 (by omega)]; rfl, h.k 0, Or.inr ⟨r, List.mem_of_getElem? hr, hg, hmax, (h.2.2.1 b r hr).2.1⟩⟩
/-- what is asked of the best route is the same whoever finds it -/
theorem LK.uniq {f : PX × Int32 → Int32} (hs : Srt R) {v y y' : Int32} (h : LK f R v y) (h' : LK f R v y') : y = y' := by
  rcases h with ⟨rfl, h⟩ | ⟨r, h1, h2, h3, rfl⟩ <;> rcases h' with ⟨rfl, h'⟩ | ⟨r', h1', h2', h3', rfl⟩
  · rfl
  · exact absurd h2' (h r' h1')
  · exact absurd h2 (h' r h1)
  · have a1 := h3 r' h1' h2'
    have a2 := h3' r h1 h2
    have e : r.1 = r'.1 := ple_as (hs.1 r h1) (hs.1 r' h1') (bg_cm h2 h2' a2) a1
    rw [hs.uniq h1 h1' e]
end
end
section
section
variable {M : MS} {R : List (PX × Int32)}
/-- isBefore: whether a string stands before the one at place k -/
theorem mbefore_eq {k : Nat} (hk : k < 500) {b : Int32} {lb : Nat} (h1 : mB M k = b) (h2 : mL M k = nI lb) (hlb : lb ≤ 32) {T : PX} (hT : T.2 ≤ 32) : j_m_isBefore M T.1 (nI T.2) (nI k) = some (if bf T (b, lb) then 1 else 0) := by
  unfold j_m_isBefore
  rw [gd_ok (ok_nI hk (by decide)), cl5 (by omega), h1, h2]
  by_cases e : T.1 = b
  · rw [if_pos ((ub_eq _ _).mpr e)]
    by_cases hl : T.2 < lb
    · rw [if_neg (nI_ge hl (by omega)), if_pos (Or.inr ⟨e, hl⟩)]
    · rw [if_pos (nI_le (by omega) (by omega)), if_neg]
      intro q
      rcases q with q | q
      · rw [e] at q; exact Nat.lt_irrefl _ q
      · exact hl q.2
  · rw [if_neg (fun q => e ((ub_eq _ _).mp q))]
    by_cases hl : un T.1 < un b
    · rw [if_neg (fun q => by have := (ub_le _ _).mp q; omega), if_pos (Or.inl hl)]
    · rw [if_pos ((ub_le _ _).mpr (by omega)), if_neg]
      intro q
      rcases q with q | q
      · exact hl q
      · exact e q.1
theorem cell_out {M' : MS} {k j : Nat} {r : PX × Int32} (hB : mB M' j = mB M j) (hL : mL M' j = mL M j) (hH : mH M' j = mH M j) (h : Cell1 M j r) : Cell1 M' j r := ⟨hB.trans h.1, hL.trans h.2.1, hH.trans h.2.2⟩
/-- the three cells at k are written -/
def wr3 (M : MS) (k : Nat) (b l h : Int32) : MS := vH (vL (vB M k b) k l) k h
theorem wr3_s (M : MS) (k : Nat) {b l h : Int32} {r : PX × Int32} (e1 : b = r.1.1) (e2 : l = nI r.1.2) (e3 : h = r.2) : Cell1 (wr3 M k b l h) k r := ⟨(upd_s _ _ _).trans e1, (upd_s _ _ _).trans e2, (upd_s _ _ _).trans e3⟩
theorem wr3_n {k j : Nat} {b l h : Int32} {r : PX × Int32} (hj : j ≠ k) (hc : Cell1 M j r) : Cell1 (wr3 M k b l h) j r := ⟨(upd_n _ _ hj).trans hc.1, (upd_n _ _ hj).trans hc.2.1, (upd_n _ _ hj).trans hc.2.2⟩
theorem ins_get (k : Nat) (r0 : PX × Int32) (hk : k ≤ R.length) (j : Nat) : (R.take k ++ r0 :: R.drop k)[j]? = if j < k then R[j]? else if j = k then some r0 else R[j - 1]? := by
  have hl : (R.take k).length = k := by rw [List.length_take]; omega
  by_cases h1 : j < k
  · rw [if_pos h1, List.getElem?_append_left (by omega), List.getElem?_take_of_lt h1]
  · rw [if_neg h1, List.getElem?_append_right (by omega), hl]
    by_cases h2 : j = k
    · rw [if_pos h2, h2, Nat.sub_self]; rfl
    · rw [if_neg h2]
      obtain ⟨d, hd⟩ : ∃ d, j - k = d + 1 := ⟨j - k - 1, by omega⟩
      rw [hd, List.getElem?_cons_succ, List.getElem?_drop, show k + d = j - 1 by omega]
theorem ins_srt (h : Srt R) {k : Nat} {r0 : PX × Int32} (hk : k ≤ R.length) (hv : VP r0.1) (hlo : ∀ j r, j < k → R[j]? = some r → bf r.1 r0.1) (hhi : ∀ j r, k ≤ j → R[j]? = some r → bf r0.1 r.1) : Srt (R.take k ++ r0 :: R.drop k) := by
  constructor
  · intro r hr
    rw [List.mem_append, List.mem_cons] at hr
    rcases hr with q | q | q
    · exact h.1 r (List.mem_of_mem_take q)
    · rw [q]; exact hv
    · exact h.1 r (List.mem_of_mem_drop q)
  · rw [List.pairwise_append]
    refine ⟨h.2.sublist (List.take_sublist _ _), List.pairwise_cons.mpr ⟨fun r hr => ?_, h.2.sublist (List.drop_sublist _ _)⟩, fun a ha b hb => ?_⟩
    · obtain ⟨j, hj⟩ := List.getElem?_of_mem hr
      rw [List.getElem?_drop] at hj
      exact hhi _ r (by omega) hj
    · obtain ⟨i, hi⟩ := List.getElem?_of_mem ha
      have hik : i < k := by
        have := (List.getElem?_eq_some_iff.mp hi).1
        rw [List.length_take] at this; omega
      rw [List.getElem?_take_of_lt hik] at hi
      rw [List.mem_cons] at hb
      rcases hb with q | q
      · rw [q]; exact hlo i a hik hi
      · obtain ⟨j, hj⟩ := List.getElem?_of_mem q
        rw [List.getElem?_drop] at hj
        exact h.lt (by omega) hi hj
theorem mins_lp {T : PX} (hT : VP T) {h9 x4 : Int32} (hs : Srt R) (hlen : R.length < 500) (hnew : ∀ r, r ∈ R → r.1 ≠ T) : ∀ (f k : Nat) (M : MS), k ≤ R.length → k + 1 ≤ f → mN M = nI R.length → (∀ j r, j < k → R[j]? = some r → Cell1 M j r) → (∀ j r, k ≤ j → R[j]? = some r → Cell1 M (j + 1) r) → (∀ j r, k ≤ j → R[j]? = some r → bf T r.1) →
    ∃ M' R', L_m_insert_62 T.1 (nI T.2) h9 x4 f M (nI k) = some (1, M') ∧ Mo M' R' ∧ R'.Perm ((T, h9) :: R) := by
  intro f
  induction f with
  | zero => intro k M hk hf; omega
  | succ f ih =>
    intro k M hk hf hN hlo hhi hbf
    have hT32 := hT.1
    rw [L_m_insert_62]
    have stop : (∀ j r, j < k → R[j]? = some r → bf r.1 T) → ∃ M' R', gd (okb (nI k) 500) (some (1, vN (vH (vL (vB M (cl (nI k)) T.1) (cl (nI k)) (nI T.2)) (cl (nI k)) h9) ((mN (vH (vL (vB M (cl (nI k)) T.1) (cl (nI k)) (nI T.2)) (cl (nI k)) h9)) + 1))) = some ((1 : Int32), M') ∧ Mo M' R' ∧ R'.Perm ((T, h9) :: R) := by
      intro hb
      rw [gd_ok (ok_nI (show k < 500 by omega) (by decide)), cl5 (by omega)]
      refine ⟨_, R.take k ++ (T, h9) :: R.drop k, rfl, ⟨?_, ?_, fun j r hj => ?_, ins_srt hs hk hT hb hbf⟩, ?_⟩
      · rw [List.length_append, List.length_cons, List.length_take, List.length_drop]; omega
      · show mN M + 1 = _
        rw [hN, nI_1, List.length_append, List.length_cons, List.length_take, List.length_drop]
        congr 1; omega
      · show Cell1 (wr3 M k T.1 (nI T.2) h9) j r
        rw [ins_get k _ hk] at hj
        by_cases h1 : j < k
        · rw [if_pos h1] at hj
          exact wr3_n (by omega) (hlo j r h1 hj)
        · rw [if_neg h1] at hj
          by_cases h2 : j = k
          · rw [if_pos h2] at hj
            cases hj
            rw [h2]; exact wr3_s M k rfl rfl rfl
          · rw [if_neg h2] at hj
            have := hhi (j - 1) r (by omega) hj
            rw [show j - 1 + 1 = j by omega] at this
            exact wr3_n h2 this
      · have p := List.perm_middle (a := (T, h9)) (l₁ := R.take k) (l₂ := R.drop k)
        rw [List.take_append_drop] at p
        exact p
    by_cases h0 : k = 0
    · subst h0
      rw [if_pos (by rw [nI_0]; exact Int32.le_refl _)]
      exact stop (fun j r hj => absurd hj (Nat.not_lt_zero _))
    · rw [if_neg (nI_nle (by omega) (by omega))]
      obtain ⟨i, rfl⟩ : ∃ i, k = i + 1 := ⟨k - 1, by omega⟩
      have hi : i < R.length := by omega
      obtain ⟨r, hr⟩ := get_some hi
      obtain ⟨c1, c2, c3⟩ := hlo i r (by omega) hr
      have hv := hs.1 r (List.mem_of_getElem? hr)
      rw [nI_pred, mbefore_eq (by omega) c1 c2 hv.1 hT32, Option.bind_some]
      by_cases hb : bf T r.1
      · rw [if_pos (show bf T (r.1.1, r.1.2) from hb), if_neg (by decide), gd_ok (ok_nI (show i < 500 by omega) (by decide)), gd_ok (ok_nI (show i + 1 < 500 by omega) (by decide)), cl5 (by omega), cl5 (by omega), pk_m1]
        refine ih i (wr3 M (i + 1) (mB M i) (mL M i) (mH M i)) (by omega) (by omega) hN (fun j r' hj hr' => wr3_n (by omega) (hlo j r' (by omega) hr')) (fun j r' hj hr' => ?_) (fun j r' hj hr' => ?_)
        · by_cases e : j = i
          · subst e
            rw [hr] at hr'; cases hr'
            exact wr3_s M (j + 1) c1 c2 c3
          · exact wr3_n (by omega) (hhi j r' (by omega) hr')
        · by_cases e : j = i
          · subst e
            rw [hr] at hr'; cases hr'; exact hb
          · exact hbf j r' (by omega) hr'
      · rw [if_neg (show ¬ bf T (r.1.1, r.1.2) from hb), if_pos rfl]
        refine stop (fun j r' hj hr' => ?_)
        have hrT : bf r.1 T := (bf_tot (hnew r (List.mem_of_getElem? hr))).resolve_right hb
        by_cases e : j = i
        · subst e
          rw [hr] at hr'; cases hr'; exact hrT
        · exact bf_tr (hs.lt (by omega) hr' hr) hrT
theorem mo_ins_bad (h : Mo M R) {p x h9 : Int32} (hb : j_t_isPrefix p x = some 0 ∨ (j_t_isPrefix p x = some 1 ∧ ¬ 0 ≤ h9)) : ∃ M', j_m_insert M p x h9 = some (-1, M') ∧ Mo M' R := by
  unfold j_m_insert
  rw [mpre_eq]
  rcases hb with e | ⟨e, h2⟩
  · rw [e, Option.bind_some, if_pos rfl]; exact ⟨_, rfl, h.k 0⟩
  · rw [e, Option.bind_some, if_neg (by decide), if_neg h2]; exact ⟨_, rfl, h.k 0⟩
theorem map_get (g : PX × Int32 → PX × Int32) {j : Nat} {r : PX × Int32} (h : (R.map g)[j]? = some r) : ∃ r0, R[j]? = some r0 ∧ r = g r0 := by
  rw [List.getElem?_map] at h
  cases hr : R[j]? with
  | none => rw [hr] at h; cases h
  | some r0 => rw [hr] at h; exact ⟨r0, rfl, (Option.some.inj h).symm⟩
theorem mo_ins_old (h : Mo M R) {T : PX} (hT : VP T) (hp : j_t_isPrefix T.1 (nI T.2) = some 1) {h9 : Int32} (hh : 0 ≤ h9) (hk : ∃ h0, (T, h0) ∈ R) : ∃ M', j_m_insert M T.1 (nI T.2) h9 = some (0, M') ∧ Mo M' (R.map (fun r => if r.1 = T then (T, h9) else r)) := by
  obtain ⟨h0, hm⟩ := hk
  have hl := h.1
  unfold j_m_insert
  rw [mpre_eq, hp, Option.bind_some, if_neg (by decide), if_pos hh]
  rcases mfind_eq (h.k 0) T.1 (nI T.2) with ⟨i, r, hr, e1, e2, ef⟩ | ⟨hno, ef⟩
  · have hi := get_lt hr
    have er : r.1 = T := (key_iff h (List.mem_of_getElem? hr) hT).mp ⟨e1, e2⟩
    rw [ef, Option.bind_some, if_neg (m1_nI (by omega)), gd_ok (ok_nI (show i < 500 by omega) (by decide)), cl5 (by omega)]
    refine ⟨_, rfl, by rw [List.length_map]; exact hl, by rw [List.length_map]; exact h.2.1, fun j r' hj => ?_, fun r' hr' => ?_, ?_⟩
    · obtain ⟨r0, hr0, rfl⟩ := map_get _ hj
      obtain ⟨c1, c2, c3⟩ := h.2.2.1 j r0 hr0
      by_cases e : j = i
      · subst e
        rw [hr] at hr0; cases hr0
        rw [if_pos er]
        exact ⟨c1.trans (by rw [er]), c2.trans (by rw [er]), upd_s _ _ _⟩
      · rw [if_neg (fun q => e (h.2.2.2.key hr0 hr (q.trans er.symm)))]
        exact ⟨c1, c2, (upd_n _ _ e).trans c3⟩
    · obtain ⟨r0, hr0, rfl⟩ := List.mem_map.mp hr'
      by_cases q : r0.1 = T
      · rw [if_pos q]; exact hT
      · rw [if_neg q]; exact h.2.2.2.1 r0 hr0
    · rw [List.pairwise_map]
      refine h.2.2.2.2.imp (fun {a b} hab => ?_)
      have f1 : ∀ a : PX × Int32, (if a.1 = T then (T, h9) else a).1 = a.1 := fun a => by
        by_cases q : a.1 = T
        · rw [if_pos q]; exact q.symm
        · rw [if_neg q]
      rw [f1 a, f1 b]; exact hab
  · exact absurd ((key_iff h hm hT).mpr rfl) (hno _ hm)
theorem no_key (h : Mo M R) {T : PX} (hT : VP T) (hk : ∀ h0, (T, h0) ∉ R) : j_m_find (vK M 0) T.1 (nI T.2) = some (-1) := by
  rcases mfind_eq (h.k 0) T.1 (nI T.2) with ⟨i, r, hr, e1, e2, ef⟩ | ⟨hno, ef⟩
  · have hm := List.mem_of_getElem? hr
    have er : r.1 = T := (key_iff h hm hT).mp ⟨e1, e2⟩
    exact absurd (show (T, r.2) ∈ R by rw [← er]; exact hm) (hk r.2)
  · exact ef
theorem mo_ins_full (h : Mo M R) {T : PX} (hT : VP T) (hp : j_t_isPrefix T.1 (nI T.2) = some 1) {h9 : Int32} (hh : 0 ≤ h9) (hk : ∀ h0, (T, h0) ∉ R) (hf : R.length = 500) : ∃ M', j_m_insert M T.1 (nI T.2) h9 = some (-2, M') ∧ Mo M' R := by
  unfold j_m_insert
  rw [mpre_eq, hp, Option.bind_some, if_neg (by decide), if_pos hh, no_key h hT hk, Option.bind_some, if_pos rfl, (h.k 0).2.1, hf, if_pos (by decide)]
  exact ⟨_, rfl, h.k 0⟩
theorem mo_ins_new (h : Mo M R) {T : PX} (hT : VP T) (hp : j_t_isPrefix T.1 (nI T.2) = some 1) {h9 : Int32} (hh : 0 ≤ h9) (hk : ∀ h0, (T, h0) ∉ R) (hf : R.length < 500) : ∃ M' R', j_m_insert M T.1 (nI T.2) h9 = some (1, M') ∧ Mo M' R' ∧ R'.Perm ((T, h9) :: R) := by
  unfold j_m_insert
  rw [mpre_eq, hp, Option.bind_some, if_neg (by decide), if_pos hh, no_key h hT hk, Option.bind_some, if_pos rfl, (h.k 0).2.1]
  rw [if_neg (show ¬ nI R.length = 500 from fun q => by have := (nI_eq (a := R.length) (b := 500) (by omega) (by omega)).mp q; omega)]
  refine mins_lp hT h.2.2.2 hf (fun r hr e => hk r.2 (by rw [← e]; exact hr)) FU R.length (vK M 0) (Nat.le_refl _) (by unfold FU; omega) h.2.1 (fun j r _ hj => (h.k 0).2.2.1 j r hj) (fun j r hj hr => ?_) (fun j r hj hr => ?_)
  · have := get_lt hr; omega
  · have := get_lt hr; omega
-- remove
theorem rem_get (a : Nat) (j : Nat) : (R.take a ++ R.drop (a + 1))[j]? = if j < a then R[j]? else R[j + 1]? := by
  by_cases hal : a < R.length
  · have hl : (R.take a).length = a := by rw [List.length_take]; omega
    by_cases h1 : j < a
    · rw [if_pos h1, List.getElem?_append_left (by omega), List.getElem?_take_of_lt h1]
    · rw [if_neg h1, List.getElem?_append_right (by omega), hl, List.getElem?_drop, show a + 1 + (j - a) = j + 1 by omega]
  · rw [List.take_of_length_le (by omega), List.drop_eq_nil_of_le (by omega), List.append_nil]
    by_cases h1 : j < a
    · rw [if_pos h1]
    · rw [if_neg h1, List.getElem?_eq_none (by omega), List.getElem?_eq_none (by omega)]
theorem mrem_lp (hs : Srt R) (hlen : R.length ≤ 500) {a : Nat} (ha : a < R.length) {x1 x2 x3 : Int32} : ∀ (f k : Nat) (M : MS), a ≤ k → k < R.length → R.length ≤ f + k → mN M = nI R.length → (∀ j r, j < a → R[j]? = some r → Cell1 M j r) → (∀ j r, a ≤ j → j < k → R[j + 1]? = some r → Cell1 M j r) → (∀ j r, k < j → R[j]? = some r → Cell1 M j r) →
    ∃ M', L_m_remove_22 x1 x2 x3 f M (nI k) = some (1, M') ∧ Mo M' (R.take a ++ R.drop (a + 1)) := by
  intro f
  induction f with
  | zero => intro k M h1 h2 h3; omega
  | succ f ih =>
    intro k M h1 h2 h3 hN hlo hmid hhi
    rw [L_m_remove_22, hN, nI_1]
    by_cases hlt : k + 1 < R.length
    · obtain ⟨r, hr⟩ := get_some hlt
      obtain ⟨c1, c2, c3⟩ := hhi (k + 1) r (by omega) hr
      rw [if_neg (nI_ge hlt (by omega)), gd_ok (ok_nI (show k + 1 < 500 by omega) (by decide)), gd_ok (ok_nI (show k < 500 by omega) (by decide)), cl5 (by omega), cl5 (by omega)]
      refine ih (k + 1) (wr3 M k (mB M (k + 1)) (mL M (k + 1)) (mH M (k + 1))) (by omega) hlt (by omega) hN (fun j r' hj hr' => wr3_n (by omega) (hlo j r' hj hr')) (fun j r' hj1 hj2 hr' => ?_) (fun j r' hj hr' => wr3_n (by omega) (hhi j r' (by omega) hr'))
      by_cases e : j = k
      · subst e
        rw [hr] at hr'; cases hr'
        exact wr3_s M j c1 c2 c3
      · exact wr3_n e (hmid j r' hj1 (by omega) hr')
    · rw [if_pos (nI_le (by omega) (by omega))]
      have hll : (R.take a ++ R.drop (a + 1)).length = R.length - 1 := by rw [List.length_append, List.length_take, List.length_drop]; omega
      refine ⟨_, rfl, by rw [hll]; omega, ?_, fun j r hj => ?_, fun r hr => ?_, ?_⟩
      · show nI R.length - 1 = _
        rw [hll]
        obtain ⟨n, hn⟩ : ∃ n, R.length = n + 1 := ⟨R.length - 1, by omega⟩
        rw [hn, nI_pred]; rfl
      · show Cell1 M j r
        rw [rem_get] at hj
        by_cases h5 : j < a
        · rw [if_pos h5] at hj; exact hlo j r h5 hj
        · rw [if_neg h5] at hj
          exact hmid j r (by omega) (by have := get_lt hj; omega) hj
      · rw [List.mem_append] at hr
        rcases hr with q | q
        · exact hs.1 r (List.mem_of_mem_take q)
        · exact hs.1 r (List.mem_of_mem_drop q)
      · rw [List.pairwise_append]
        refine ⟨hs.2.sublist (List.take_sublist _ _), hs.2.sublist (List.drop_sublist _ _), fun u hu v hv => ?_⟩
        obtain ⟨i, hi⟩ := List.getElem?_of_mem hu
        have hia : i < a := by
          have := (List.getElem?_eq_some_iff.mp hi).1
          rw [List.length_take] at this; omega
        rw [List.getElem?_take_of_lt hia] at hi
        obtain ⟨j, hj⟩ := List.getElem?_of_mem hv
        rw [List.getElem?_drop] at hj
        exact hs.lt (by omega) hi hj
theorem rem_flt (hs : Srt R) {a : Nat} {r : PX × Int32} (hr : R[a]? = some r) : R.take a ++ R.drop (a + 1) = R.filter (fun q => decide (q.1 ≠ r.1)) := by
  have ha := get_lt hr
  have e : R = R.take a ++ r :: R.drop (a + 1) := by
    have h1 := List.drop_eq_getElem_cons ha
    have h2 : R[a] = r := (List.getElem?_eq_some_iff.mp hr).2
    rw [h2] at h1
    rw [← h1, List.take_append_drop]
  have f1 : (R.take a).filter (fun q => decide (q.1 ≠ r.1)) = R.take a := List.filter_eq_self.mpr (fun q hq => by
    obtain ⟨i, hi⟩ := List.getElem?_of_mem hq
    have hia : i < a := by
      have := (List.getElem?_eq_some_iff.mp hi).1
      rw [List.length_take] at this; omega
    rw [List.getElem?_take_of_lt hia] at hi
    exact decide_eq_true (fun w => by have := hs.key hi hr w; omega))
  have f2 : (R.drop (a + 1)).filter (fun q => decide (q.1 ≠ r.1)) = R.drop (a + 1) := List.filter_eq_self.mpr (fun q hq => by
    obtain ⟨i, hi⟩ := List.getElem?_of_mem hq
    rw [List.getElem?_drop] at hi
    exact decide_eq_true (fun w => by have := hs.key hi hr w; omega))
  have f3 : R.filter (fun q => decide (q.1 ≠ r.1)) = (R.take a ++ r :: R.drop (a + 1)).filter (fun q => decide (q.1 ≠ r.1)) := by rw [← e]
  rw [f3, List.filter_append, List.filter_cons, f1, f2, if_neg (by simp)]
theorem mo_rem (h : Mo M R) (p x : Int32) : (∃ r, r ∈ R ∧ r.1.1 = p ∧ nI r.1.2 = x ∧ ∃ M', j_m_remove M p x = some (1, M') ∧ Mo M' (R.filter (fun q => decide (q.1 ≠ r.1)))) ∨ ((∀ r, r ∈ R → ¬ (r.1.1 = p ∧ nI r.1.2 = x)) ∧ ∃ M', j_m_remove M p x = some (0, M') ∧ Mo M' R) := by
  unfold j_m_remove
  rcases mfind_eq (h.k 0) p x with ⟨i, r, hr, e1, e2, ef⟩ | ⟨hno, ef⟩
  · left
    have hi := get_lt hr
    have hl := h.1
    refine ⟨r, List.mem_of_getElem? hr, e1, e2, ?_⟩
    rw [ef, Option.bind_some, if_neg (m1_nI (by omega)), ← rem_flt h.2.2.2 hr]
    exact mrem_lp h.2.2.2 hl hi FU i (vK M 0) (Nat.le_refl _) hi (by unfold FU; omega) h.2.1 (fun j r' _ hr' => h.2.2.1 j r' hr') (fun j r' h1 h2 => by omega) (fun j r' _ hr' => h.2.2.1 j r' hr')
  · right
    refine ⟨hno, ?_⟩
    rw [ef, Option.bind_some, if_pos rfl]
    exact ⟨_, rfl, h.k 0⟩
end
end
section
-- THE MODEL'S NODES
def Nd (M : MS) (Ns : List PX) : Prop := Ns.length ≤ 1000 ∧ mC M = nI Ns.length ∧ (∀ k x, Ns[k]? = some x → mP M k = x.1 ∧ mQ M k = nI x.2) ∧ ∀ x, x ∈ Ns → VP x
def sm (M' M : MS) : Prop := mB M' = mB M ∧ mL M' = mL M ∧ mH M' = mH M ∧ mN M' = mN M
theorem sm_rf (M : MS) : sm M M := ⟨rfl, rfl, rfl, rfl⟩
theorem sm_tr {A B C : MS} (h : sm A B) (h2 : sm B C) : sm A C := ⟨h.1.trans h2.1, h.2.1.trans h2.2.1, h.2.2.1.trans h2.2.2.1, h.2.2.2.trans h2.2.2.2⟩
theorem Mo.cg {M M' : MS} {R : List (PX × Int32)} (h : Mo M R) (hs : sm M' M) : Mo M' R := by
  refine ⟨h.1, hs.2.2.2.trans h.2.1, fun k r hr => ?_, h.2.2.2⟩
  obtain ⟨c1, c2, c3⟩ := h.2.2.1 k r hr
  exact ⟨by rw [hs.1]; exact c1, by rw [hs.2.1]; exact c2, by rw [hs.2.2.1]; exact c3⟩
def addN (Ns : List PX) (x : PX) : List PX := if x.2 = 0 ∨ x ∈ Ns then Ns else Ns ++ [x]
theorem madd_lp {Ns : List PX} {M : MS} (h : Nd M Ns) (hlt : Ns.length < 1000) {x : PX} (hx : VP x) (hx0 : ¬ x.2 = 0) : ∀ (f k : Nat), k ≤ Ns.length → Ns.length + 1 ≤ f + k → (∀ j y, j < k → Ns[j]? = some y → y ≠ x) → ∃ M', L_m_add_7 x.1 (nI x.2) f M (nI k) = some M' ∧ Nd M' (addN Ns x) ∧ sm M' M := by
  intro f
  induction f with
  | zero => intro k hk hf; omega
  | succ f ih =>
    intro k hk hf hno
    obtain ⟨h1, h2, h3, h4⟩ := h
    rw [L_m_add_7, h2]
    by_cases hl : k < Ns.length
    · obtain ⟨y, hy⟩ : ∃ y, Ns[k]? = some y := ⟨_, List.getElem?_eq_getElem hl⟩
      obtain ⟨c1, c2⟩ := h3 k y hy
      have hyv := (h4 y (List.mem_of_getElem? hy)).1
      have hxv := hx.1
      rw [if_neg (nI_ge hl (by omega)), gd_ok (ok_nI (show k < 1000 by omega) (by decide)), cl5 (by omega), c1, c2, nI_1]
      have next : y ≠ x → ∃ M', L_m_add_7 x.1 (nI x.2) f M (nI (k + 1)) = some M' ∧ Nd M' (addN Ns x) ∧ sm M' M := by
        intro hne
        refine ih (k + 1) (by omega) (by omega) (fun j z hj hz => ?_)
        by_cases e : j = k
        · subst e; rw [hy] at hz; cases hz; exact hne
        · exact hno j z (by omega) hz
      by_cases e1 : y.1 = x.1
      · rw [if_pos e1]
        by_cases e2 : nI y.2 = nI x.2
        · rw [if_pos e2]
          have e : y = x := Prod.ext e1 ((nI_eq (by omega) (by omega)).mp e2)
          refine ⟨M, rfl, ?_, sm_rf M⟩
          unfold addN
          rw [if_pos (Or.inr (by rw [← e]; exact List.mem_of_getElem? hy))]
          exact ⟨h1, h2, h3, h4⟩
        · rw [if_neg e2]; exact next (fun q => e2 (by rw [q]))
      · rw [if_neg e1]; exact next (fun q => e1 (by rw [q]))
    · have hk2 : k = Ns.length := by omega
      rw [if_pos (nI_le (by omega) (by omega)), gd_ok (ok_nI (show Ns.length < 1000 by omega) (by decide)), cl5 (by omega)]
      rw [show mC (vP M Ns.length x.1) = nI Ns.length from h2, gd_ok (ok_nI (show Ns.length < 1000 by omega) (by decide)), cl5 (by omega)]
      refine ⟨_, rfl, ?_, sm_rf M⟩
      have hnot : x ∉ Ns := fun hm => by
        obtain ⟨j, hj⟩ := List.getElem?_of_mem hm
        exact hno j x (by rw [hk2]; exact (List.getElem?_eq_some_iff.mp hj).1) hj rfl
      unfold addN
      rw [if_neg (fun q => q.elim hx0 hnot)]
      refine ⟨by rw [List.length_append]; simp; omega, ?_, fun j y hj => ?_, fun y hy => ?_⟩
      · show mC M + 1 = _
        rw [h2, nI_1, List.length_append]; rfl
      · show upd (mP M) Ns.length x.1 j = y.1 ∧ upd (mQ M) Ns.length (nI x.2) j = nI y.2
        by_cases e : j = Ns.length
        · subst e
          rw [List.getElem?_append_right (Nat.le_refl _), Nat.sub_self] at hj
          cases hj
          exact ⟨upd_s _ _ _, upd_s _ _ _⟩
        · have hjl : j < Ns.length := by
            have := (List.getElem?_eq_some_iff.mp hj).1
            rw [List.length_append] at this
            simp at this; omega
          rw [List.getElem?_append_left hjl] at hj
          obtain ⟨c1, c2⟩ := h3 j y hj
          exact ⟨(upd_n _ _ e).trans c1, (upd_n _ _ e).trans c2⟩
      · rw [List.mem_append, List.mem_singleton] at hy
        rcases hy with q | q
        · exact h4 y q
        · rw [q]; exact hx
theorem madd_eq {Ns : List PX} {M : MS} (h : Nd M Ns) (hlt : Ns.length < 1000) {x : PX} (hx : VP x) : ∃ M', j_m_add M x.1 (nI x.2) = some M' ∧ Nd M' (addN Ns x) ∧ sm M' M := by
  unfold j_m_add
  have hxv := hx.1
  by_cases h0 : x.2 = 0
  · rw [if_pos ((nI_zero (by omega)).mpr h0)]
    refine ⟨M, rfl, ?_, sm_rf M⟩
    unfold addN
    rw [if_pos (Or.inl h0)]; exact h
  · rw [if_neg (fun q => h0 ((nI_zero (by omega)).mp q))]
    have := madd_lp h hlt hx h0 FU 0 (Nat.zero_le _) (by unfold FU; omega) (fun j y hj => absurd hj (Nat.not_lt_zero _))
    rw [nI_0] at this
    exact this
theorem addN_nd {Ns : List PX} (h : Ns.Nodup) (x : PX) : (addN Ns x).Nodup := by
  unfold addN
  by_cases q : x.2 = 0 ∨ x ∈ Ns
  · rw [if_pos q]; exact h
  · rw [if_neg q]
    rw [List.nodup_append]
    refine ⟨h, List.nodup_cons.mpr ⟨List.not_mem_nil, List.nodup_nil⟩, fun a ha b hb e => ?_⟩
    rw [List.mem_singleton] at hb
    exact q (Or.inr (by rw [← hb, ← e]; exact ha))
theorem addN_len (Ns : List PX) (x : PX) : (addN Ns x).length ≤ Ns.length + 1 := by
  unfold addN
  split
  · omega
  · rw [List.length_append]; simp
theorem addN_old {Ns : List PX} {y : PX} (x : PX) (h : y ∈ Ns) : y ∈ addN Ns x := by
  unfold addN
  split
  · exact h
  · exact List.mem_append_left _ h
theorem addN_new (Ns : List PX) (x : PX) : x.2 = 0 ∨ x ∈ addN Ns x := by
  unfold addN
  by_cases q : x.2 = 0 ∨ x ∈ Ns
  · rw [if_pos q]; exact q
  · rw [if_neg q]; exact Or.inr (List.mem_append_right _ (List.mem_singleton.mpr rfl))
theorem addN_in {Ns : List PX} {x y : PX} (h : y ∈ addN Ns x) : y ∈ Ns ∨ (y = x ∧ ¬ x.2 = 0) := by
  unfold addN at h
  by_cases q : x.2 = 0 ∨ x ∈ Ns
  · rw [if_pos q] at h; exact Or.inl h
  · rw [if_neg q, List.mem_append, List.mem_singleton] at h
    exact h.imp id (fun e => ⟨e, fun z => q (Or.inl z)⟩)
-- where two strings part
def CP (a b x : PX) : Prop := VP x ∧ ple x a ∧ ple x b ∧ (x.2 = a.2 ∨ x.2 = b.2 ∨ mb a.1 x.2 ≠ mb b.1 x.2)
theorem CP.lt {a b x y : PX} (h : CP a b x) (h2 : CP a b y) : ¬ x.2 < y.2 := by
  intro hl
  obtain ⟨-, -, -, h3⟩ := h
  obtain ⟨-, h4, h5, -⟩ := h2
  rcases h3 with q | q | q
  · have := h4.1; omega
  · have := h5.1; omega
  · exact q ((h4.2 _ hl).symm.trans (h5.2 _ hl))
theorem CP.uniq {a b x y : PX} (h : CP a b x) (h2 : CP a b y) : x = y := by
  have h3 := h.lt h2
  have h4 := h2.lt h
  exact ple_as h.1 h2.1 (ple_cm h.2.1 h2.2.1 (by omega)) (by omega)
theorem CP.of {a b x : PX} (hx : VP x) (h1 : pxt x false a) (h2 : pxt x true b) : CP a b x := ⟨hx, pxt_le h1, pxt_le h2, Or.inr (Or.inr (by rw [h1.2.2, h2.2.2]; decide))⟩
section
variable {M : MS} {R : List (PX × Int32)}
theorem CP.ns (hs : Srt R) {a b : PX × Int32} (ha : a ∈ R) (hb : b ∈ R) (hab : bf a.1 b.1) {x : PX} (h : CP a.1 b.1 x) (h0 : ¬ x.2 = 0) : NS R x := by
  obtain ⟨h1, h2, h3, h4⟩ := h
  refine ⟨h1, by omega, ?_⟩
  by_cases ea : x.2 = a.1.2
  · left; exact ⟨a.2, by rw [ple_as h1 (hs.1 a ha) h2 (by omega)]; exact ha⟩
  · by_cases eb : x.2 = b.1.2
    · left; exact ⟨b.2, by rw [ple_as h1 (hs.1 b hb) h3 (by omega)]; exact hb⟩
    · right
      have hd := (h4.resolve_left ea).resolve_left eb
      have la : x.2 < a.1.2 := by have := h2.1; omega
      have lb : x.2 < b.1.2 := by have := h3.1; omega
      have pa := pxt_lt h2 la
      have pb := pxt_lt h3 lb
      cases ha2 : mb a.1.1 x.2 <;> cases hb2 : mb b.1.1 x.2 <;> rw [ha2] at pa hd <;> rw [hb2] at pb hd
      · exact absurd rfl hd
      · exact ⟨a, ha, b, hb, pa, pb⟩
      · exact absurd (bf_px pb pa) (bf_as hab)
      · exact absurd rfl hd
/-- two routes that part at x: neighbours that do -/
theorem neighbours (hs : Srt R) {x : PX} (hx : VP x) : ∀ (n i j : Nat) (a b : PX × Int32), j ≤ i + n → i < j → R[i]? = some a → R[j]? = some b → pxt x false a.1 → pxt x true b.1 → ∃ k a' b', R[k]? = some a' ∧ R[k + 1]? = some b' ∧ pxt x false a'.1 ∧ pxt x true b'.1 := by
  intro n
  induction n with
  | zero => intro i j a b h1 h2; omega
  | succ n ih =>
    intro i j a b h1 h2 ha hb pa pb
    by_cases e : j = i + 1
    · subst e; exact ⟨i, a, b, ha, hb, pa, pb⟩
    · have hj := get_lt hb
      obtain ⟨c, hc⟩ := get_some (R := R) (k := i + 1) (by omega)
      have hca := hs.lt (show i < i + 1 by omega) ha hc
      have hcb := hs.lt (show i + 1 < j by omega) hc hb
      have hcv := hs.1 c (List.mem_of_getElem? hc)
      have hav := hs.1 a (List.mem_of_getElem? ha)
      have hle := bf_cv hcv (pxt_le pa) (pxt_le pb) hca hcb
      have hxa : bf x a.1 := bf_le hx hav (pxt_le pa) (fun q => by have := pa.1; rw [← q] at this; omega)
      have hne : x ≠ c.1 := fun q => bf_as (bf_tr hxa hca) (by rw [← q]; rw [← q] at hca; exact absurd (bf_tr hxa hca) (bf_ir x))
      have hp := pxt_ne hx hcv hle hne
      cases hbit : mb c.1.1 x.2 <;> rw [hbit] at hp
      · exact ih (i + 1) j c b (by omega) (by omega) hc hb hp pb
      · exact ⟨i, a, c, ha, hc, pa, hp⟩
theorem minner_lp {k most : Nat} (hk : k + 1 < 500) {a b : Int32} (ha : mB M k = a) (hb : mB M (k + 1) = b) (hm : most ≤ 32) : ∀ (f c : Nat), c ≤ most → most + 1 ≤ f + c → (∀ i, i < c → mb a i = mb b i) → ∃ c', L_m_findNodes_84 M (nI (k + 1)) (nI most) f (nI c) = some (nI c') ∧ c' ≤ most ∧ (∀ i, i < c' → mb a i = mb b i) ∧ (c' = most ∨ mb a c' ≠ mb b c') := by
  intro f
  induction f with
  | zero => intro c h1 h2; omega
  | succ f ih =>
    intro c h1 h2 h3
    rw [L_m_findNodes_84]
    by_cases hlt : c < most
    · rw [if_neg (nI_ge hlt (by omega)), nI_pred, gd_ok (ok_nI (show k + 1 < 500 by omega) (by decide)), gd_ok (ok_nI (show k < 500 by omega) (by decide)), cl5 (by omega), cl5 (by omega), ha, hb, ushr_bit b (by omega), ushr_bit a (by omega), nI_1]
      by_cases e : mb a c = mb b c
      · rw [e, if_pos rfl]
        refine ih (c + 1) (by omega) (by omega) (fun i hi => ?_)
        by_cases q : i = c
        · rw [q]; exact e
        · exact h3 i (by omega)
      · rw [if_neg]
        · exact ⟨c, rfl, h1, h3, Or.inr e⟩
        · revert e
          cases mb a c <;> cases mb b c <;> simp
    · rw [if_pos (nI_le (by omega) (by omega))]
      exact ⟨c, rfl, h1, h3, Or.inl (by omega)⟩
def I2 (R : List (PX × Int32)) (k : Nat) (Ns : List PX) : Prop := Ns.Nodup ∧ Ns.length ≤ R.length + k ∧ (∀ x, x ∈ Ns → NS R x) ∧ (∀ r, r ∈ R → r.1.2 = 0 ∨ r.1 ∈ Ns) ∧ ∀ j a b, j < k → R[j]? = some a → R[j + 1]? = some b → ∀ x, CP a.1 b.1 x → x.2 = 0 ∨ x ∈ Ns
theorem mnodes2_lp : ∀ (f k : Nat) (M : MS) (Ns : List PX), Mo M R → Nd M Ns → I2 R k Ns → R.length ≤ f + k → k < R.length ∨ (R.length = 0 ∧ k = 0 ∧ 1 ≤ f) → ∃ M' Ns', L_m_findNodes_39 f M (nI (k + 1)) = some M' ∧ Mo M' R ∧ Nd M' Ns' ∧ I2 R (R.length - 1) Ns' := by
  intro f
  induction f with
  | zero => intro k M Ns _ _ _ h1 h2; omega
  | succ f ih =>
    intro k M Ns hM hN hI hf hk
    have hlen := hM.1
    rw [L_m_findNodes_39, hM.2.1]
    by_cases hlt : k + 1 < R.length
    · obtain ⟨a, ha⟩ := get_some (R := R) (k := k) (by omega)
      obtain ⟨b, hb⟩ := get_some hlt
      obtain ⟨a1, a2, -⟩ := hM.2.2.1 k a ha
      obtain ⟨b1, b2, -⟩ := hM.2.2.1 (k + 1) b hb
      have hma := List.mem_of_getElem? ha
      have hmb := List.mem_of_getElem? hb
      have hav := hM.2.2.2.1 a hma
      have hbv := hM.2.2.2.1 b hmb
      have ha32 := hav.1
      have hb32 := hbv.1
      rw [if_neg (nI_ge hlt (by omega)), nI_pred, gd_ok (ok_nI (show k + 1 < 500 by omega) (by decide)), gd_ok (ok_nI (show k < 500 by omega) (by decide)), cl5 (by omega), cl5 (by omega), a2, b2, b1, nI_1]
      have go : ∀ most, most = min a.1.2 b.1.2 → ∃ M' Ns', (L_m_findNodes_84 M (nI (k + 1)) (nI most) FU 0).bind (fun y => (j_m_mask y).bind (fun v => (j_m_add M (b.1.1 &&& v) y).bind (fun S' => L_m_findNodes_39 f S' (nI (k + 1 + 1))))) = some M' ∧ Mo M' R ∧ Nd M' Ns' ∧ I2 R (R.length - 1) Ns' := by
        intro most hmost
        obtain ⟨c, e1, e2, e3, e4⟩ := minner_lp (M := M) (k := k) (most := most) (by omega) a1 b1 (by omega) FU 0 (by omega) (by unfold FU; omega) (fun i hi => absurd hi (Nat.not_lt_zero _))
        rw [nI_0] at e1
        rw [e1, Option.bind_some, mmask_eq (by omega), Option.bind_some]
        obtain ⟨x, hx⟩ : ∃ x : PX, x = (b.1.1 &&& msk c, c) := ⟨_, rfl⟩
        have hx1 : b.1.1 &&& msk c = x.1 := by rw [hx]
        have hx2 : c = x.2 := by rw [hx]
        have hxv : VP x := by rw [hx]; exact vd_and (by omega)
        have hxb : ∀ i, i < c → mb x.1 i = mb b.1.1 i := fun i hi => by rw [← hx1]; exact mb_and_msk (by omega) hi
        have hcp : CP a.1 b.1 x := by
          refine ⟨hxv, ⟨by omega, fun i hi => (hxb i (by omega)).trans (e3 i (by omega)).symm⟩, ⟨by omega, fun i hi => hxb i (by omega)⟩, ?_⟩
          rw [← hx2]
          rcases e4 with q | q
          · by_cases z : a.1.2 ≤ b.1.2
            · left; omega
            · right; left; omega
          · right; right; exact q
        have hab := hM.2.2.2.lt (show k < k + 1 by omega) ha hb
        obtain ⟨i1, i2, i3, i4, i5⟩ := hI
        obtain ⟨M2, g1, g2, g3⟩ := madd_eq hN (by omega) hxv
        rw [← hx1, ← hx2] at g1
        rw [g1, Option.bind_some]
        refine ih (k + 1) M2 (addN Ns x) (hM.cg g3) g2 ⟨addN_nd i1 x, by have := addN_len Ns x; omega, fun y hy => ?_, fun r hr => (i4 r hr).imp id (fun q => addN_old x q), fun j u v hj hu hv y hy => ?_⟩ (by omega) (Or.inl hlt)
        · rcases addN_in hy with q | q
          · exact i3 y q
          · rw [q.1]; exact hcp.ns hM.2.2.2 hma hmb hab q.2
        · by_cases e : j = k
          · subst e
            rw [ha] at hu; cases hu
            rw [hb] at hv; cases hv
            rw [hy.uniq hcp]
            exact addN_new Ns x
          · exact (i5 j u v (by omega) hu hv y hy).imp id (fun q => addN_old x q)
      by_cases hle : a.1.2 ≤ b.1.2
      · rw [if_pos (nI_le hle (by omega))]
        exact go a.1.2 (by omega)
      · rw [if_neg (nI_ge (by omega) (by omega))]
        exact go b.1.2 (by omega)
    · rw [if_pos (nI_le (by omega) (by omega))]
      refine ⟨M, Ns, rfl, hM, hN, ?_⟩
      have : R.length - 1 = k := by omega
      rw [this]; exact hI
theorem mnodes1_lp : ∀ (f k : Nat) (M : MS) (Ns : List PX), k ≤ R.length → R.length + 1 ≤ f + k → Mo M R → Nd M Ns → Ns.Nodup → Ns.length ≤ k → (∀ x, x ∈ Ns → NS R x) → (∀ j r, j < k → R[j]? = some r → r.1.2 = 0 ∨ r.1 ∈ Ns) → ∃ M' Ns', L_m_findNodes_7 f M (nI k) = some M' ∧ Mo M' R ∧ Nd M' Ns' ∧ I2 R (R.length - 1) Ns' := by
  intro f
  induction f with
  | zero => intro k M Ns h1 h2; omega
  | succ f ih =>
    intro k M Ns hk hf hM hN hnd hln hns hin
    have hlen := hM.1
    rw [L_m_findNodes_7, hM.2.1]
    by_cases hlt : k < R.length
    · obtain ⟨r, hr⟩ := get_some hlt
      obtain ⟨c1, c2, -⟩ := hM.2.2.1 k r hr
      have hmr := List.mem_of_getElem? hr
      have hv := hM.2.2.2.1 r hmr
      rw [if_neg (nI_ge hlt (by omega)), gd_ok (ok_nI (show k < 500 by omega) (by decide)), cl5 (by omega), c1, c2, nI_1]
      obtain ⟨M2, g1, g2, g3⟩ := madd_eq hN (by omega) hv
      rw [g1, Option.bind_some]
      refine ih (k + 1) M2 (addN Ns r.1) (by omega) (by omega) (hM.cg g3) g2 (addN_nd hnd _) (by have := addN_len Ns r.1; omega) (fun y hy => ?_) (fun j r' hj hr' => ?_)
      · rcases addN_in hy with q | q
        · exact hns y q
        · rw [q.1]; exact ⟨hv, by have := q.2; omega, Or.inl ⟨r.2, hmr⟩⟩
      · by_cases e : j = k
        · subst e
          rw [hr] at hr'; cases hr'
          exact addN_new Ns r.1
        · exact (hin j r' (by omega) hr').imp id (fun q => addN_old _ q)
    · rw [if_pos (nI_le (by omega) (by omega))]
      have h1 : (1 : Int32) = nI (0 + 1) := by decide
      rw [h1]
      refine mnodes2_lp FU 0 M Ns hM hN ⟨hnd, by omega, hns, fun r hr => ?_, fun j a b hj => absurd hj (Nat.not_lt_zero _)⟩ (by unfold FU; omega) (by unfold FU; omega)
      obtain ⟨j, hj⟩ := List.getElem?_of_mem hr
      exact hin j r (by have := get_lt hj; omega) hj
/-- findNodes finds just the strings of a trie's nodes -/
theorem mo_findNodes (h : Mo M R) : ∃ M' Ns, j_m_findNodes M = some M' ∧ Mo M' R ∧ Nd M' Ns ∧ Ns.Nodup ∧ (∀ x, x ∈ Ns ↔ NS R x) ∧ Ns.length ≤ 2 * R.length := by
  unfold j_m_findNodes
  have hM : Mo (vC M 0) R := h
  have hN : Nd (vC M 0) [] := ⟨Nat.zero_le _, rfl, fun k x hx => by simp at hx, fun x hx => absurd hx List.not_mem_nil⟩
  obtain ⟨M', Ns, e1, e2, e3, i1, i2, i3, i4, i5⟩ := mnodes1_lp FU 0 (vC M 0) [] (Nat.zero_le _) (by have := h.1; unfold FU; omega) hM hN List.nodup_nil (Nat.le_refl _) (fun x hx => absurd hx List.not_mem_nil) (fun j r hj => absurd hj (Nat.not_lt_zero _))
  rw [nI_0] at e1
  refine ⟨M', Ns, e1, e2, e3, i1, fun x => ⟨i3 x, fun hx => ?_⟩, by omega⟩
  obtain ⟨hv, h0, hx⟩ := hx
  rcases hx with ⟨h9, hm⟩ | ⟨r1, hr1, r2, hr2, p1, p2⟩
  · exact (i4 _ hm).resolve_left (by show ¬ x.2 = 0; omega)
  · obtain ⟨i, hi⟩ := List.getElem?_of_mem hr1
    obtain ⟨j, hj⟩ := List.getElem?_of_mem hr2
    have hb := bf_px p1 p2
    have hij : i < j := by
      rcases Nat.lt_trichotomy i j with q | q | q
      · exact q
      · subst q
        rw [hi] at hj; cases hj
        exact absurd hb (bf_ir _)
      · exact absurd (h.2.2.2.lt q hj hi) (bf_as hb)
    obtain ⟨k, a, b, ha, hb2, pa, pb⟩ := neighbours h.2.2.2 hv (j - i) i j r1 r2 (by omega) hij hi hj p1 p2
    exact (i5 k a b (by have := get_lt hb2; omega) ha hb2 x (CP.of hv pa pb)).resolve_left (by omega)
theorem mo_room (h : Mo M R) : ∀ Ns : List PX, Ns.Nodup → (∀ x, x ∈ Ns → NS R x) → Ns.length ≤ 2 * R.length := by
  obtain ⟨M', N0, -, -, -, h1, h2, h3⟩ := mo_findNodes h
  intro Ns hn hs
  exact Nat.le_trans (List.Nodup.length_le_of_subset hn (fun x hx => (h2 x).mpr (hs x hx))) h3
theorem one_nI (n : Nat) : (1 : Int32) + nI n = nI (1 + n) := by
  rw [show (1 : Int32) = nI 1 from by decide, nI_add]
theorem mo_nodes (h : Mo M R) : ∃ (M' : MS) (Ns : List PX), j_m_nodes M = some (nI (1 + Ns.length), M') ∧ Mo M' R ∧ Ns.Nodup ∧ ∀ x, x ∈ Ns ↔ NS R x := by
  obtain ⟨M', Ns, e1, e2, e3, e4, e5, -⟩ := mo_findNodes (h.k 0)
  refine ⟨M', Ns, ?_, e2, e4, e5⟩
  unfold j_m_nodes
  rw [e1, Option.bind_some, e3.2.1, one_nI]
theorem mdepth_lp {Ns : List PX} (hN : Nd M Ns) (v : Int32) : ∀ (f k : Nat), k ≤ Ns.length → Ns.length + 1 ≤ f + k → L_m_depth_13 v f M (nI (1 + (Ns.take k).countP (fun x => decide (bg v x)))) (nI k) = some (nI (1 + Ns.countP (fun x => decide (bg v x))), M) := by
  intro f
  induction f with
  | zero => intro k h1 h2; omega
  | succ f ih =>
    intro k hk hf
    obtain ⟨n1, n2, n3, n4⟩ := hN
    rw [L_m_depth_13, n2]
    by_cases hlt : k < Ns.length
    · obtain ⟨x, hx⟩ : ∃ x, Ns[k]? = some x := ⟨_, List.getElem?_eq_getElem hlt⟩
      obtain ⟨c1, c2⟩ := n3 k x hx
      have ih := ih (k + 1) (by omega) (by omega)
      rw [List.take_add_one, hx, Option.toList_some, List.countP_append, List.countP_singleton] at ih
      rw [if_neg (nI_ge hlt (by omega)), gd_ok (ok_nI (show k < 1000 by omega) (by decide)), cl5 (by omega), c1, c2, mbeg_eq v (n4 x (List.mem_of_getElem? hx)), Option.bind_some, nI_1]
      by_cases hb : bg v x
      · rw [if_pos hb, if_neg (by decide), nI_1]
        rw [decide_eq_true hb] at ih
        exact ih
      · rw [if_neg hb, if_pos rfl, Int32.add_zero]
        rw [decide_eq_false hb] at ih
        exact ih
    · rw [if_pos (nI_le (by omega) (by omega)), List.take_of_length_le (by omega)]
theorem mo_depth (h : Mo M R) (v : Int32) : ∃ (M' : MS) (Ns : List PX), j_m_depth M v = some (nI (1 + Ns.countP (fun x => decide (bg v x))), M') ∧ Mo M' R ∧ Ns.Nodup ∧ ∀ x, x ∈ Ns ↔ NS R x := by
  obtain ⟨M', Ns, e1, e2, e3, e4, e5, -⟩ := mo_findNodes (h.k 0)
  refine ⟨M', Ns, ?_, e2, e4, e5⟩
  unfold j_m_depth
  rw [e1, Option.bind_some]
  have := mdepth_lp e3 v FU 0 (Nat.zero_le _) (by have := e3.1; unfold FU; omega)
  rw [List.take_zero, List.countP_nil, nI_0] at this
  exact this
end
end
section
-- THE LAW'S LOOP IN PLAIN NUMBERS: trie and model hold the same routes
def LI (S : TS) (M : MS) : Prop := ∃ R, Tr S R ∧ Mo M R
theorem Tr.pm {S : TS} {R R' : List (PX × Int32)} (h : Tr S R) (p : R.Perm R') : Tr S R' := by
  obtain ⟨P, K, U, F, h1, h2⟩ := h
  exact ⟨P, K, U, F, h1, h2.trans p⟩
theorem srt_cnt {R : List (PX × Int32)} (hs : Srt R) {j : Nat} {r : PX × Int32} (hr : R[j]? = some r) : R.countP (fun r' => decide (bf r'.1 r.1)) = j := by
  have ha := get_lt hr
  have e : R = R.take j ++ r :: R.drop (j + 1) := by
    have h1 := List.drop_eq_getElem_cons ha
    have h2 : R[j] = r := (List.getElem?_eq_some_iff.mp hr).2
    rw [h2] at h1
    rw [← h1, List.take_append_drop]
  have f1 : (R.take j).countP (fun r' => decide (bf r'.1 r.1)) = (R.take j).length := by
    rw [List.countP_eq_length]
    intro q hq
    obtain ⟨i, hi⟩ := List.getElem?_of_mem hq
    have hia : i < j := by
      have := (List.getElem?_eq_some_iff.mp hi).1
      rw [List.length_take] at this; omega
    rw [List.getElem?_take_of_lt hia] at hi
    exact decide_eq_true (hs.lt hia hi hr)
  have f2 : (R.drop (j + 1)).countP (fun r' => decide (bf r'.1 r.1)) = 0 := by
    rw [List.countP_eq_zero]
    intro q hq z
    obtain ⟨i, hi⟩ := List.getElem?_of_mem hq
    rw [List.getElem?_drop] at hi
    exact bf_as (hs.lt (by omega) hr hi) (of_decide_eq_true z)
  have f3 : R.countP (fun r' => decide (bf r'.1 r.1)) = (R.take j ++ r :: R.drop (j + 1)).countP (fun r' => decide (bf r'.1 r.1)) := by rw [← e]
  rw [f3, List.countP_append, List.countP_cons, f1, f2, decide_eq_false (bf_ir r.1), List.length_take]
  simp; omega
theorem law_head {L i : Nat} (hL : L ≤ 2048) (hi : i ≤ 2048) : nI L - 4 < nI i ↔ L < i + 4 := by
  rw [show (4 : Int32) = nI 4 from by decide, Int32.lt_iff_toInt_lt, pk_sub_toInt (by omega) (by omega), nI_toInt (by omega)]
  omega
theorem nI_k (i : Nat) {c : Int32} (k : Nat) (hc : c = nI k) : nI i + c = nI (i + k) := by rw [hc, nI_add]
theorem pre_of {p x : Int32} {l : Nat} (hl : l ≤ 32) (hx : x = nI l) (hv : Vd p l) : j_t_isPrefix p x = some 1 := by
  rcases tpre_eq p x with ⟨_, _, _, _, e⟩ | ⟨hno, _⟩
  · exact e
  · exact absurd hv (hno l hl hx)
set_option maxHeartbeats 1000000 in
theorem law_lp (xs : Nat → Int32) {L : Nat} (hL : L ≤ 2048) : ∀ (f i : Nat) (S : TS) (M : MS), i ≤ L → L + 1 ≤ f + i → LI S M → L_law xs L f S M (nI i) = some 1 := by
  intro f
  induction f with
  | zero => intro i S M h1 h2; omega
  | succ f ih0 =>
    intro i S M hi hf hLI
    rw [L_law]
    by_cases hend : L < i + 4
    · rw [if_pos ((law_head hL (by omega)).mpr hend)]
    · rw [if_neg (fun q => hend ((law_head hL (by omega)).mp q)), gd_ok (ok_nI (show i < L by omega) (by omega)), nI_k i 4 (by decide)]
      have ih : ∀ (S : TS) (M : MS), LI S M → L_law xs L f S M (nI (i + 4)) = some 1 := fun S M h => ih0 (i + 4) S M (by omega) (by omega) h
      rw [nI_k i 1 (by decide), nI_k i 2 (by decide), nI_k i 3 (by decide), cl5 (by omega), cl5 (by omega), cl5 (by omega), cl5 (by omega)]
      have g1 : okb (nI (i + 1)) L = true := ok_nI (by omega) (by omega)
      have g2 : okb (nI (i + 2)) L = true := ok_nI (by omega) (by omega)
      have g3 : okb (nI (i + 3)) L = true := ok_nI (by omega) (by omega)
      rw [g1, g2, g3]
      simp only [gd, if_true]
      generalize xs (i + 1) = p
      generalize xs (i + 2) = x
      generalize xs (i + 3) = h9
      generalize xs i &&& 15 = w
      obtain ⟨R, hT, hM⟩ := hLI
      have hs := hM.2.2.2
      by_cases s0 : w = 0
      · rw [if_pos s0]
        obtain ⟨S', e1, t1⟩ := tr_init S
        obtain ⟨M', e2, t2⟩ := mo_init M
        rw [e1, Option.bind_some, e2, Option.bind_some]
        exact ih S' M' ⟨[], t1, t2⟩
      rw [if_neg s0]
      by_cases s1 : w = 1
      · rw [if_pos s1]
        have bad : (j_t_isPrefix p x = some 0 ∨ (j_t_isPrefix p x = some 1 ∧ ¬ 0 ≤ h9)) → ((j_t_insert S p x h9).bind fun q => (j_m_insert M p x h9).bind fun q2 => if q.1 = q2.1 then L_law xs L f q.2 q2.2 (nI (i + 4)) else some 0) = some 1 := by
          intro hb
          obtain ⟨M', e2, t2⟩ := mo_ins_bad hM hb
          rw [tr_ins_bad hb, Option.bind_some, e2, Option.bind_some, if_pos rfl]
          exact ih S M' ⟨R, hT, t2⟩
        rcases tpre_eq p x with ⟨l, hl, rfl, hv, e⟩ | ⟨hno, e⟩
        · by_cases hh : 0 ≤ h9
          · have hTv : VP ((p, l) : PX) := hv
            by_cases hk : ∃ h0, (((p, l) : PX), h0) ∈ R
            · obtain ⟨S', e1, t1⟩ := tr_ins_old hT hTv e hh hk
              obtain ⟨M', e2, t2⟩ := mo_ins_old hM hTv e hh hk
              rw [e1, Option.bind_some, e2, Option.bind_some, if_pos rfl]
              exact ih S' M' ⟨_, t1, t2⟩
            · have hk2 : ∀ h0, (((p, l) : PX), h0) ∉ R := fun h0 q => hk ⟨h0, q⟩
              by_cases hf5 : R.length = 500
              · obtain ⟨M', e2, t2⟩ := mo_ins_full hM hTv e hh hk2 hf5
                rw [tr_ins_full hT hTv e hh hk2 hf5, Option.bind_some, e2, Option.bind_some, if_pos rfl]
                exact ih S M' ⟨R, hT, t2⟩
              · have hf6 : R.length < 500 := by have := hM.1; omega
                obtain ⟨S', e1, t1⟩ := tr_ins_new hT hTv e hh hk2 hf6 (mo_room hM)
                obtain ⟨M', R', e2, t2, pm⟩ := mo_ins_new hM hTv e hh hk2 hf6
                rw [e1, Option.bind_some, e2, Option.bind_some, if_pos rfl]
                exact ih S' M' ⟨R', t1.pm pm.symm, t2⟩
          · exact bad (Or.inr ⟨e, hh⟩)
        · exact bad (Or.inl e)
      rw [if_neg s1]
      by_cases s2 : w = 2
      · rw [if_pos s2]
        rcases mo_rem hM p x with ⟨r, hr, rfl, rfl, M', e2, t2⟩ | ⟨hno, M', e2, t2⟩
        · have hv := hs.1 r hr
          have e := pre_of hv.1 rfl hv
          obtain ⟨S', e1, t1⟩ := tr_rem_yes hT hv e ⟨r.2, hr⟩
          rw [e1, Option.bind_some, e2, Option.bind_some, if_pos rfl]
          exact ih S' M' ⟨_, t1, t2⟩
        · have e1 : j_t_remove S p x = some (0, S) := by
            rcases tpre_eq p x with ⟨l, hl, rfl, hv, e⟩ | ⟨-, e⟩
            · exact tr_rem_no (T := (p, l)) hT hv e (fun h0 q => hno _ q ⟨rfl, rfl⟩)
            · exact tr_rem_bad e
          rw [e1, Option.bind_some, e2, Option.bind_some, if_pos rfl]
          exact ih S M' ⟨R, hT, t2⟩
      rw [if_neg s2]
      by_cases s3 : w = 3
      · rw [if_pos s3]
        obtain ⟨y, e1, k1⟩ := tr_lookup hT p
        obtain ⟨y', M', e2, t2, k2⟩ := mo_lookup hM p
        rw [e1, Option.bind_some, e2, Option.bind_some, if_pos (k1.uniq hs k2)]
        exact ih S M' ⟨R, hT, t2⟩
      rw [if_neg s3]
      by_cases s4 : w = 4
      · rw [if_pos s4]
        obtain ⟨y, e1, k1⟩ := tr_lookupLen hT p
        obtain ⟨y', M', e2, t2, k2⟩ := mo_lookupLen hM p
        rw [e1, Option.bind_some, e2, Option.bind_some, if_pos (k1.uniq hs k2)]
        exact ih S M' ⟨R, hT, t2⟩
      rw [if_neg s4]
      by_cases s5 : w = 5
      · rw [if_pos s5]
        obtain ⟨y, M', e2, t2, k2⟩ := mo_exact hM p x
        have e1 : j_t_exact S p x = some y := by
          rcases k2 with ⟨r, hr, rfl, rfl, rfl⟩ | ⟨hno, rfl⟩
          · have hv := hs.1 r hr
            have e := pre_of hv.1 rfl hv
            rcases tr_exact hT hv e with ⟨h0, hm, e1⟩ | ⟨hno, -⟩
            · have e9 := hs.uniq hm hr rfl
              rw [e1, ← e9]
            · exact absurd hr (hno r.2)
          · rcases tpre_eq p x with ⟨l, hl, rfl, hv, e⟩ | ⟨-, e⟩
            · rcases tr_exact (T := (p, l)) hT hv e with ⟨h0, hm, -⟩ | ⟨-, e1⟩
              · exact absurd ⟨rfl, rfl⟩ (hno _ hm)
              · exact e1
            · unfold j_t_exact
              rw [e, Option.bind_some, if_pos rfl]
        rw [e1, Option.bind_some, e2, Option.bind_some, if_pos rfl]
        exact ih S M' ⟨R, hT, t2⟩
      rw [if_neg s5]
      by_cases s6 : w = 6
      · rw [if_pos s6]
        rcases tpre_eq p x with ⟨l, hl, rfl, hv, e⟩ | ⟨-, e⟩
        · obtain ⟨M', e2, t2⟩ := mo_under (T := (p, l)) hM hv e
          rw [tr_under (T := (p, l)) hT hv e, Option.bind_some, e2, Option.bind_some, if_pos rfl]
          exact ih S M' ⟨R, hT, t2⟩
        · obtain ⟨M', e2, t2⟩ := mo_under_bad hM e
          have e1 : j_t_under S p x = some (-1) := by
            unfold j_t_under
            rw [e, Option.bind_some, if_pos rfl]
          rw [e1, Option.bind_some, e2, Option.bind_some, if_pos rfl]
          exact ih S M' ⟨R, hT, t2⟩
      rw [if_neg s6]
      by_cases s7 : w = 7
      · rw [if_pos s7]
        rcases mo_route hM p x with ⟨j, r, rfl, hr, M', e2, t2⟩ | ⟨ho, M', e2, t2⟩
        · obtain ⟨r', hr', hc, e1⟩ := tr_route hT x (get_lt hr)
          obtain ⟨j', hj'⟩ := List.getElem?_of_mem hr'
          rw [srt_cnt hs hj'] at hc
          subst hc
          rw [hj'] at hr
          cases hr
          rw [e1, Option.bind_some, e2, Option.bind_some, if_pos rfl]
          exact ih S M' ⟨R, hT, t2⟩
        · rw [tr_route_out hT p x ho, Option.bind_some, e2, Option.bind_some, if_pos rfl]
          exact ih S M' ⟨R, hT, t2⟩
      rw [if_neg s7]
      by_cases s8 : w = 8
      · rw [if_pos s8]
        obtain ⟨M', e2, t2⟩ := mo_count hM
        rw [tr_count hT, Option.bind_some, e2, Option.bind_some, if_pos rfl]
        exact ih S M' ⟨R, hT, t2⟩
      rw [if_neg s8]
      by_cases s9 : w = 9
      · rw [if_pos s9]
        obtain ⟨N1, n1, n2, e1, -⟩ := tr_nodes hT
        obtain ⟨M', N2, e2, t2, m1, m2⟩ := mo_nodes hM
        have pm : N1.Perm N2 := (List.perm_ext_iff_of_nodup n1 m1).mpr (fun a => (n2 a).trans (m2 a).symm)
        rw [e1, Option.bind_some, e2, Option.bind_some, if_pos (by rw [pm.length_eq])]
        exact ih S M' ⟨R, hT, t2⟩
      rw [if_neg s9]
      by_cases s10 : w = 10
      · rw [if_pos s10]
        obtain ⟨N1, n1, n2, -, e1⟩ := tr_nodes hT
        obtain ⟨M', N2, e2, t2, m1, m2⟩ := mo_depth hM p
        have pm : N1.Perm N2 := (List.perm_ext_iff_of_nodup n1 m1).mpr (fun a => (n2 a).trans (m2 a).symm)
        rw [e1, Option.bind_some, e2, Option.bind_some, if_pos (by rw [pm.countP_eq])]
        exact ih S M' ⟨R, hT, t2⟩
      rw [if_neg s10]
      exact ih S M ⟨R, hT, hM⟩
theorem law_true (xs : Nat → Int32) (L : Nat) (hL : L ≤ 2048) : ∃ S0, j_t_init zT = some S0 ∧ L_law xs L FU S0 zM 0 = some 1 := by
  obtain ⟨S0, e1, t1⟩ := tr_init zT
  refine ⟨S0, e1, ?_⟩
  have h := law_lp xs hL FU 0 S0 zM (Nat.zero_le _) (by unfold FU; omega) ⟨[], t1, Nat.zero_le _, rfl, fun k r hr => by simp at hr, fun r hr => absurd hr List.not_mem_nil, List.Pairwise.nil⟩
  rw [nI_0] at h
  exact h
end
section
theorem in_T : ∀ w ∈ u_ws R_T F_T 8, w ∈ gT := fi_T
set_option maxHeartbeats 4000000 in
set_option maxRecDepth 100000 in
/-- THE LAW, from its entry -/
theorem whole_start {p : Program} {e : Env} {s : State} {m : MethodId} {below : List Frame} {meth : Method} {c : Code} (l : Launch) {b L : Nat} {xs : Nat → Int32} (hL : L ≤ 2048) (C0 : lw_At p s m meth c b L xs) : W p l e room_1 s m #[Value.ref b] below meth c s.heap [] 0 0 (lw_Z below #[Value.ref b] s) (entryFrame m ([Value.ref b] : List Value).toArray 4) := by
  obtain ⟨S0, hj, hlaw⟩ := law_true xs L hL
  obtain ⟨hx, hb, hr, hml, hown, hts, hX, hbl, hlocks, hgv⟩ := id C0
  have hg : ∀ w ∈ gT, w.before #[Value.ref b] s = true := fun w hw => hts w (List.mem_filter.mp hw).1
  have E : CallFix p m c code 4 s #[Value.ref b] gT R_law := ⟨hx, hb, hml, hown, hg⟩
  have hA : ∀ q : Nat, s.heap.size ≤ q → (fun q : Nat => s.heap.size ≤ q) q := fun _ h => h
  obtain ⟨c0, iS0, hKn0⟩ := u_known (C := R_T) (T := F_T) (N := 8) (n := 8) hg fi_T (hg (.instantiable R_T 8) (by decide +kernel))
  obtain ⟨c1, iS1, hKn1⟩ := u_known (C := R_M) (T := F_M) (N := 8) (n := 8) hg fi_M (hg (.instantiable R_M 8) (by decide +kernel))
  obtain ⟨D, hKc⟩ : ∃ D : va_G, ∀ (k : Nat) (q : vw_C), classes[k]? = some q → u_Kn s q.1 q.2.1 q.2.2 (D.1 k) (D.2 k) := by
    refine ⟨(fun k => if k = 0 then c0 else c1, fun k => if k = 0 then iS0 else iS1), ?_⟩
    intro k q hq
    match k, hq with
    | 0, hq => cases hq; exact hKn0
    | 1, hq => cases hq; exact hKn1
    | k + 2, hq => simp [classes] at hq
  have hS : va_S (fun q : Nat => s.heap.size ≤ q) s.heap s.heap [] := va_S.rf
  have hK : va_K D classes [] s := ⟨hKc, fun k q h => by simp at h⟩
  have hP : va_P D classes [] s.heap := fun k q h => by simp at h
  have hD : va_D (fun q : Nat => s.heap.size ≤ q) [] := ⟨fun i j p q h => by simp at h, fun k q h => by simp at h⟩
  have hl := lv_entry ([.ref b]) (n := 4) (Nat.le_of_ble_eq_true rfl)
  rw [lg_entry_eq]
  generalize (lg_sl ([.ref b]) ++ List.replicate (4 - (lg_sl ([.ref b])).length) Slot.unset).toArray = ls at hl ⊢
  have hl : lv_has ls 4 [(0, .ref b)] := hl
  refine va_new (ci := 0) (fs := [.null, .null, .null, .null, .null, .null, .int 0, .int 0]) (C := R_T) (T := F_T) (N := 8) hx hb hg fi_T ft_T fo_T hown (hg (.classLink R_law 7 R_T) (by decide +kernel)) (hg (.instantiable R_T 8) (by decide +kernel)) (hg (.initialized R_T) (by decide +kernel)) hK hP hD hS hA rfl (fun j hj => by rcases (show j = 0 ∨ j = 1 ∨ j = 2 ∨ j = 3 ∨ j = 4 ∨ j = 5 ∨ j = 6 ∨ j = 7 by omega) with rfl | rfl | rfl | rfl | rfl | rfl | rfl | rfl <;> rfl) (by decide +kernel) (by decide +kernel) d_law_0 (fun q0 H hP hD hS => ?_)
  have hP : va_P D classes [(q0, .inr (0, [.null, .null, .null, .null, .null, .null, .int 0, .int 0]))] H := hP
  have hD : va_D (fun q : Nat => s.heap.size ≤ q) ([(q0, .inr (0, [.null, .null, .null, .null, .null, .null, .int 0, .int 0]))] : va_W) := hD
  refine W.widen (k := 1) (n := 8) (by omega) (by omega) ?_
  refine lv_dup hx hb d_law_3 rfl ?_
  have hPc := hP.sub (ws' := [(q0, .inr (0, [.null, .null, .null, .null, .null, .null, .int 0, .int 0]))]) [0] rfl
  have hDc := hD.sub (ws' := [(q0, .inr (0, [.null, .null, .null, .null, .null, .null, .int 0, .int 0]))]) [0] (by decide) rfl
  have hKc := hK.sub (tys' := []) [] rfl
  have hFc := va_free (wc := [(q0, .inr (0, [.null, .null, .null, .null, .null, .null, .int 0, .int 0]))]) hD hS hA [0] rfl
  refine va_callv (va_runI (As := []) (rest := [.ref q0]) E (c_t_ctor l D q0 H.size S0 hj) ⟨callB_of 0 hg (lw_goodIn (gT_of (List.mem_of_getElem? (i := 23) rfl) rfl)) rfl rfl rfl (hg (.initialized R_T) (by decide +kernel)) (hg (.methodLink R_law 9 y_t_ctor) (by decide +kernel)) (by decide +kernel) ⟨by decide +kernel, by decide +kernel⟩, rfl, hg (.instanceMethod y_t_ctor) (by decide +kernel)⟩ ⟨fun a U g mk q => by obtain ⟨q0, q1, qP, qK, qD⟩ := q; exact ⟨q0, q1, qP, va_K.moved (u := U) (U := U.calling g mk a) (Vm.Alike.refl U.vm) qK, qD⟩, fun U hU hW => ⟨rfl, by rw [hU], by rw [hU]; exact hPc, va_K.moved hW.alike hKc, hDc.weaken (fun _ _ _ _ => trivial)⟩⟩ rfl rfl hl.1 rfl (lv_room (Nat.le_of_ble_eq_true rfl)) d_law_4 ⟨by decide +kernel, by decide +kernel⟩) hS (fun q _ h => hFc q h) hFc (fun u t H1 locs ht hvm hw hB hz1 hk1 hS => ?_)
  obtain ⟨a, cA⟩ := u
  obtain ⟨hP1, hK1, hD1⟩ := hB
  dsimp only at hw hP1 hK1 hD1
  rw [ht] at hP1
  have hK := va_K.moved hvm.symm hK1
  obtain ⟨hP, hD⟩ := va_join (wr := []) (w1 := wT a cA S0) hP hD [0] [] rfl rfl (by decide) (by decide) hk1 hFc hP1 hD1
  generalize H1 = H at hP hS ⊢
  have hP : va_P D classes (wT a cA S0) H := hP
  have hD : va_D (fun q : Nat => s.heap.size ≤ q) (wT a cA S0) := hD
  refine W.widen (k := 7) (n := 6014) (by omega) (by omega) ?_
  refine lv_astore_n (lv' := [(1, .ref q0), (0, .ref b)]) hx hb d_law_7 rfl hl (by decide) rfl (fun ls hl => ?_)
  refine va_new (ci := 1) (fs := [.int 0, .null, .null, .null, .int 0, .null, .null, .int 0]) (C := R_M) (T := F_M) (N := 8) hx hb hg fi_M ft_M fo_M hown (hg (.classLink R_law 10 R_M) (by decide +kernel)) (hg (.instantiable R_M 8) (by decide +kernel)) (hg (.initialized R_M) (by decide +kernel)) hK hP hD hS hA rfl (fun j hj => by rcases (show j = 0 ∨ j = 1 ∨ j = 2 ∨ j = 3 ∨ j = 4 ∨ j = 5 ∨ j = 6 ∨ j = 7 by omega) with rfl | rfl | rfl | rfl | rfl | rfl | rfl | rfl <;> rfl) (by decide +kernel) (by decide +kernel) d_law_8 (fun q1 H hP hD hS => ?_)
  refine W.widen (k := 8) (n := 6022) (by omega) (by omega) ?_
  refine lv_dup hx hb d_law_11 rfl ?_
  have hPc := hP.sub (ws' := [(q1, .inr (1, [.int 0, .null, .null, .null, .int 0, .null, .null, .int 0]))]) [7] rfl
  have hDc := hD.sub (ws' := [(q1, .inr (1, [.int 0, .null, .null, .null, .int 0, .null, .null, .int 0]))]) [7] (by decide) rfl
  have hKc := hK.sub (tys' := []) [] rfl
  have hFc := va_free (wc := [(q1, .inr (1, [.int 0, .null, .null, .null, .int 0, .null, .null, .int 0]))]) hD hS hA [7] rfl
  refine va_callv (va_runI (As := []) (rest := [.ref q1]) E (c_m_ctor l D q1 H.size) ⟨callB_of 0 hg (lw_goodIn (gT_of (List.mem_of_getElem? (i := 157) rfl) rfl)) rfl rfl rfl (hg (.initialized R_M) (by decide +kernel)) (hg (.methodLink R_law 12 y_m_ctor) (by decide +kernel)) (by decide +kernel) ⟨by decide +kernel, by decide +kernel⟩, rfl, hg (.instanceMethod y_m_ctor) (by decide +kernel)⟩ ⟨fun a U g mk q => by obtain ⟨q0, q1, qP, qK, qD⟩ := q; exact ⟨q0, q1, qP, va_K.moved (u := U) (U := U.calling g mk a) (Vm.Alike.refl U.vm) qK, qD⟩, fun U hU hW => ⟨rfl, by rw [hU], by rw [hU]; exact hPc, va_K.moved hW.alike hKc, hDc.weaken (fun _ _ _ _ => trivial)⟩⟩ rfl rfl hl.1 rfl (lv_room (Nat.le_of_ble_eq_true rfl)) d_law_12 ⟨by decide +kernel, by decide +kernel⟩) hS (fun q _ h => hFc q h) hFc (fun u t H1 locs ht hvm hw hB hz1 hk1 hS => ?_)
  obtain ⟨a2, cA2⟩ := u
  obtain ⟨hP1, hK1, hD1⟩ := hB
  dsimp only at hP1 hK1 hD1
  have hw2 : a2 0 = q1 := hw
  rw [ht] at hP1
  have hK2 := hK.app (va_K.moved hvm.symm hK1)
  obtain rfl : cA = cA2 := kA_eq hK2 (i := 0) (j := 1) rfl rfl
  obtain ⟨hP, hD⟩ := va_join (wr := wT a cA S0) (w1 := wM a2 cA zM) hP hD [7] [0, 1, 2, 3, 4, 5, 6] rfl rfl (by decide) (by decide) hk1 hFc hP1 hD1
  generalize H1 = H at hP hS ⊢
  have hPT : va_P D classes (wT a cA S0) H := hP.sub [0, 1, 2, 3, 4, 5, 6] rfl
  have hPM : va_P D classes (wM a2 cA zM) H := hP.sub [7, 8, 9, 10, 11, 12] rfl
  have hDT := dU_T (A := fun q : Nat => s.heap.size ≤ q) (hD.sub (ws' := wT a cA S0) [0, 1, 2, 3, 4, 5, 6] (by decide) rfl) (fun i hi => by
    match i, hi with
    | 0, _ => exact hD.2 0 _ rfl
    | 1, _ => exact hD.2 1 _ rfl
    | 2, _ => exact hD.2 2 _ rfl
    | 3, _ => exact hD.2 3 _ rfl
    | 4, _ => exact hD.2 4 _ rfl
    | 5, _ => exact hD.2 5 _ rfl
    | 6, _ => exact hD.2 6 _ rfl
    | i + 7, hi => omega)
  have hDM := dU_M (A := fun q : Nat => s.heap.size ≤ q) (hD.sub (ws' := wM a2 cA zM) [7, 8, 9, 10, 11, 12] (by decide) rfl) (fun i hi => by
    match i, hi with
    | 0, _ => exact hD.2 7 _ rfl
    | 1, _ => exact hD.2 8 _ rfl
    | 2, _ => exact hD.2 9 _ rfl
    | 3, _ => exact hD.2 10 _ rfl
    | 4, _ => exact hD.2 11 _ rfl
    | 5, _ => exact hD.2 12 _ rfl
    | i + 6, hi => omega)
  have gT1 : ∀ i, i < 7 → ∃ e, (wT a cA S0 ++ wM a2 cA zM)[i]? = some (a i, e) := fun i hi => by
    match i, hi with
    | 0, _ => exact ⟨_, rfl⟩
    | 1, _ => exact ⟨_, rfl⟩
    | 2, _ => exact ⟨_, rfl⟩
    | 3, _ => exact ⟨_, rfl⟩
    | 4, _ => exact ⟨_, rfl⟩
    | 5, _ => exact ⟨_, rfl⟩
    | 6, _ => exact ⟨_, rfl⟩
    | i + 7, hi => omega
  have gM1 : ∀ j, j < 6 → ∃ e, (wT a cA S0 ++ wM a2 cA zM)[7 + j]? = some (a2 j, e) := fun j hj => by
    match j, hj with
    | 0, _ => exact ⟨_, rfl⟩
    | 1, _ => exact ⟨_, rfl⟩
    | 2, _ => exact ⟨_, rfl⟩
    | 3, _ => exact ⟨_, rfl⟩
    | 4, _ => exact ⟨_, rfl⟩
    | 5, _ => exact ⟨_, rfl⟩
    | j + 6, hj => omega
  have hap : ∀ i j, i < 7 → j < 6 → a i ≠ a2 j := by
    intro i j hi hj he
    obtain ⟨e1, h1⟩ := gT1 i hi
    obtain ⟨e2, h2⟩ := gM1 j hj
    have := hD.1 i (7 + j) _ _ h1 h2 he
    omega
  refine W.widen (k := 13) (n := 9522) (by omega) (by omega) ?_
  refine lv_astore_n (lv' := [(2, .ref q1), (1, .ref q0), (0, .ref b)]) hx hb d_law_15 rfl hl (by decide) rfl (fun ls hl => ?_)
  refine lv_iconst (v := 0) hx hb d_law_16 (by decide) ?_
  refine lv_istore_n (lv' := [(3, .int 0), (2, .ref q1), (1, .ref q0), (0, .ref b)]) hx hb d_law_17 rfl hl (by decide) rfl (fun ls hl => ?_)
  refine law_loop C0 hK hDT hDM hap FU S0 zM 0 hlaw _ _ hPT hPM hS ls ?_
  have hw0 : a 0 = q0 := by assumption
  rw [hw0, hw2]
  exact lv_sub hl [3, 2, 1, 0] rfl
end
section
set_option maxHeartbeats 4000000 in
theorem lw_walk (l : Launch) (b : Addr) (xs : List Int32) : MetFree l x (headSpec (Jvm.Cond.code x code maxLocals ret :: tables_1) room_1) (lw_P b xs) (fun _ _ _ _ _ => True) lw_Q := by
  refine MetFree.of_bodyS (code := code) (maxLocals := maxLocals) (ret := ret) (by decide) ?_ ?_
  · intro args s m h hn
    obtain ⟨meth, c, h1, h2, h3, h4, h5, h6, -, -⟩ := Cond.code_spec hn (atoms_spec (ws := Jvm.Cond.code x code maxLocals ret :: tables_1) h _ List.mem_cons_self)
    exact ⟨meth, c, h1, h2, h3, h4, h5, h6⟩
  · intro p e s m args below meth c s₁ B hml0 hP _
    obtain ⟨rfl, hx, hbd, hgv⟩ := hP
    obtain ⟨scr, harrAt, hlist, hof, hsmall⟩ := hx
    obtain ⟨hcb, hkn, -, -⟩ := State.arrayAt?_spec harrAt
    have hown : s.vm.findClass R_law = some m.cls := findClass_of_methodNamed B.named
    have hts0 : ∀ c ∈ (Jvm.Cond.code x code maxLocals ret :: tables_1), c.before #[Value.ref b] s = true := atoms_spec (ws := Jvm.Cond.code x code maxLocals ret :: tables_1) B.pre
    have hts : ∀ w ∈ lw_tbl, w.before #[Value.ref b] s = true := k2_hts_sels lw_privs (fun w hw => hts0 w (List.mem_cons_of_mem _ hw)) lw_privs_ok
    have hml : c.maxLocals = 4 := B.maxLocals_eq (hts0 _ List.mem_cons_self)
    have X₀ : Stand p l e room_1 s m #[Value.ref b] below meth c s₁ [] 0 0 := Stand.of_body B
    have hh0 : s₁.heap = s.heap := by rw [B.state]; rfl
    have hsz : scr.slots.size = xs.length := by rw [← Array.length_toList, hlist, List.length_map]
    have hval : ∀ j : Nat, j < xs.length → scr.slots[j]? = some (.int (xs.getD j 0)) := fun j hj => by
      rw [← Array.getElem?_toList, hlist]
      simp [hj]
    have hbl : b < s.heap.size := (Array.getElem?_eq_some_iff.mp hcb).1
    have hX : va_X b xs.length (fun j => xs.getD j 0) s s.heap := ⟨scr, hcb, hof, hkn, hsz, hval⟩
    have K : W p l e room_1 s m #[Value.ref b] below meth c s₁.heap [] 0 0 (lw_Z below #[Value.ref b] s) (entryFrame m ([Value.ref b] : List Value).toArray 4) := by
      rw [hh0]
      exact whole_start l hbd ⟨B.exec, B.bytes, B.returns, hml, hown, hts, hX, hbl, B.notSynchronized, hgv⟩
    obtain ⟨t, a1, o, b1, b2, b3⟩ := K s₁ rfl X₀
    exact ⟨t, o, a1, b1, b2, b3⟩
theorem lw_pre_spec {args : Array Value} {s : State} (h : (Jvm.Cond.and given_1 narrow_1).before args s = true) (hr : rest_1_c.before args s = true) : ∃ (b : Addr) (xs : List Int32), lw_P b xs args s := by
  have hs := flat_of_before _ h
  have hq := flat_of_before _ hr
  have hc : (Cond.count 1).before args s = true := hs _ (by decide +kernel)
  have harr : (Cond.arrayOf (.arg 0) .int).before args s = true := hs _ (by decide +kernel)
  have hle : (Cond.le (.length (.arg 0)) (.int 2048)).before args s = true := hs _ (by decide +kernel)
  have hlen : (Cond.isInt (.length (.arg 0))).before args s = true := hq _ (by decide +kernel)
  have hall : (Cond.all (.arg 0) (.isInt (.elem (.arg 0) (.index 0)))).before args s = true := hq _ (by decide +kernel)
  obtain ⟨b, xs, hb, hx⟩ := State.ints_of_pre rfl harr hlen hall
  have hsm : xs.length < 2 ^ 31 := hx.choose_spec.2.2.2
  have hev : (Term.length (.arg 0)).eval args s none [] s = some (.int xs.length.toInt32) := hx.length_eval hb
  have hv := Cond.le_ints hev (show (Term.int 2048).eval args s none [] s = some (.int 2048) from rfl)
  have hd : xs.length.toInt32 ≤ 2048 := by
    simpa [Cond.before, Cond.holds, hv] using hle
  have hN : xs.length ≤ 2048 := (Int32.ofNat_le_ofNat hsm (by decide)).mp (show Int32.ofNat xs.length ≤ Int32.ofNat 2048 from hd)
  exact ⟨b, xs, Cond.one_arg hc (show args[0]? = some (.ref b) from hb), hx, hN, h⟩
theorem lw_comes (l : Launch) : Comes l x (Jvm.Cond.code x code maxLocals ret :: tables_1) room_1 (fun tb e args s => Calls_1 tb e args s ∧ rest_1 tb e args s ∧ Pre_1 tb e args s)
    (fun _ _ args s o t => lw_Q args s o t) := by
  intro p e ha hc hk s m args below hf hfit hheap happ hpre
  obtain ⟨b, xs, hP⟩ := lw_pre_spec hpre.2.2 hpre.2.1
  obtain ⟨k, o, h1, h2, h3, hQ⟩ := lw_walk l b xs p e ha hc hk s m args below hf ((Spec.applies_iff_loose hf).mp happ).1 hP trivial
  exact ⟨k, o, h1, h2, h3, hQ⟩
theorem lw_frame {s t : State} {o : Outcome} {args : Array Value} (h : Framed s o t [] 600000 7302250) :
    Framed s o t (fieldLocs frame_1_writes args s ++ arrayLocs frame_1_arrays args s ++ staticLocs frame_1_statics s) 600000 7302250 := h
theorem lw_limb (L : Cond) (hL : ∀ (args : Array Value) (s t : State), L.after args s (.returned (some (.int 1))) t = true) :
    ArmFor flags0 classFile x code maxLocals ret World_1 tables_1 room_1 Calls_1 rest_1 Pre_1
      (fun tb e a s o t => postC L tb e a s o t ∧ Framed s o t (fieldLocs frame_1_writes a s ++ arrayLocs frame_1_arrays a s ++ staticLocs frame_1_statics s) 600000 7302250) := by
  intro l _ _ _ p e ha hc hk s m args below hf hfit hheap happ hpre
  obtain ⟨k, o, h1, h2, h3, rfl, hF⟩ := lw_comes l p e ha hc hk s m args below hf hfit hheap happ hpre
  exact ⟨k, _, h1, h2, h3, hL args s _, lw_frame hF⟩
theorem i_vc : Claimed_1_1 ∧ Claimed_1_2 := ⟨lw_limb limb_1_1 (fun args s t => by simp [limb_1_1, Cond.after, Cond.holds, Cond.value]), lw_limb limb_1_2 (fun args s t => Cond.after_iff.mpr (by
  first | (rw [show limb_1_2 = Cond.eq .result (.int 1) from rfl, Cond.eq_ints (x := 1) (y := 1) rfl rfl]; simp; done) | (simp [limb_1_2, Cond.value, Term.eval]; done)))⟩
end
