section
-- ===== PART A: goes FIRST, ahead of the names: the tables' words, and 'selects' of the private methods out of them =====
/-- a private method of a class that the tables say can be made, by its rows of tables_1 -/
def lw_okq (q : MethodName × Nat) : Prop := (q.1.cls ≠ "java/lang/invoke/MethodHandle" ∧ q.1.cls ≠ "java/lang/invoke/VarHandle") ∧ Cond.instantiable q.1.cls q.2 ∈ tables_1 ∧ Cond.privateMethod q.1 ∈ tables_1 ∧ Cond.instanceMethod q.1 ∈ tables_1
theorem lw_p0 : lw_okq (⟨"GameGraph", "look", "()V"⟩, 8) := ⟨⟨by decide +kernel, by decide +kernel⟩, List.mem_of_getElem? (i := 12) (by decide +kernel), List.mem_of_getElem? (i := 100) (by decide +kernel), List.mem_of_getElem? (i := 101) (by decide +kernel)⟩
theorem lw_p1 : lw_okq (⟨"GameGraph", "reach", "()V"⟩, 8) := ⟨⟨by decide +kernel, by decide +kernel⟩, List.mem_of_getElem? (i := 12) (by decide +kernel), List.mem_of_getElem? (i := 104) (by decide +kernel), List.mem_of_getElem? (i := 105) (by decide +kernel)⟩
theorem lw_p2 : lw_okq (⟨"GameGraph", "comesBack", "(I)Z"⟩, 8) := ⟨⟨by decide +kernel, by decide +kernel⟩, List.mem_of_getElem? (i := 12) (by decide +kernel), List.mem_of_getElem? (i := 112) (by decide +kernel), List.mem_of_getElem? (i := 113) (by decide +kernel)⟩
theorem lw_p3 : lw_okq (⟨"GameGraph", "measure", "()V"⟩, 8) := ⟨⟨by decide +kernel, by decide +kernel⟩, List.mem_of_getElem? (i := 12) (by decide +kernel), List.mem_of_getElem? (i := 116) (by decide +kernel), List.mem_of_getElem? (i := 117) (by decide +kernel)⟩
theorem lw_p4 : lw_okq (⟨"java/lang/Throwable", "fillInStackTrace", "(I)Ljava/lang/Throwable;"⟩, 6) := ⟨⟨by decide +kernel, by decide +kernel⟩, List.mem_of_getElem? (i := 175) (by decide +kernel), List.mem_of_getElem? (i := 173) (by decide +kernel), List.mem_of_getElem? (i := 174) (by decide +kernel)⟩
theorem lw_p5 : lw_okq (⟨"GameGraph", "find", "(I)LGameGraph$State;"⟩, 8) := ⟨⟨by decide +kernel, by decide +kernel⟩, List.mem_of_getElem? (i := 12) (by decide +kernel), List.mem_of_getElem? (i := 208) (by decide +kernel), List.mem_of_getElem? (i := 209) (by decide +kernel)⟩
theorem lw_p6 : lw_okq (⟨"GameGraph", "findReached", "(I)LGameGraph$State;"⟩, 8) := ⟨⟨by decide +kernel, by decide +kernel⟩, List.mem_of_getElem? (i := 12) (by decide +kernel), List.mem_of_getElem? (i := 270) (by decide +kernel), List.mem_of_getElem? (i := 271) (by decide +kernel)⟩
theorem lw_p7 : lw_okq (⟨"GameGraph", "valueOf", "(LGameGraph$State;)I"⟩, 8) := ⟨⟨by decide +kernel, by decide +kernel⟩, List.mem_of_getElem? (i := 12) (by decide +kernel), List.mem_of_getElem? (i := 289) (by decide +kernel), List.mem_of_getElem? (i := 290) (by decide +kernel)⟩
theorem lw_p8 : lw_okq (⟨"GameGraph", "search", "(LGameGraph$State;II)I"⟩, 8) := ⟨⟨by decide +kernel, by decide +kernel⟩, List.mem_of_getElem? (i := 12) (by decide +kernel), List.mem_of_getElem? (i := 293) (by decide +kernel), List.mem_of_getElem? (i := 294) (by decide +kernel)⟩
theorem lw_p9 : lw_okq (⟨"GameGraphModel", "isState", "(I)Z"⟩, 13) := ⟨⟨by decide +kernel, by decide +kernel⟩, List.mem_of_getElem? (i := 314) (by decide +kernel), List.mem_of_getElem? (i := 372) (by decide +kernel), List.mem_of_getElem? (i := 373) (by decide +kernel)⟩
theorem lw_p10 : lw_okq (⟨"GameGraphModel", "isJoint", "(II)Z"⟩, 13) := ⟨⟨by decide +kernel, by decide +kernel⟩, List.mem_of_getElem? (i := 314) (by decide +kernel), List.mem_of_getElem? (i := 387) (by decide +kernel), List.mem_of_getElem? (i := 388) (by decide +kernel)⟩
theorem lw_p11 : lw_okq (⟨"GameGraphModel", "joint", "(I)I"⟩, 13) := ⟨⟨by decide +kernel, by decide +kernel⟩, List.mem_of_getElem? (i := 314) (by decide +kernel), List.mem_of_getElem? (i := 391) (by decide +kernel), List.mem_of_getElem? (i := 392) (by decide +kernel)⟩
theorem lw_p12 : lw_okq (⟨"GameGraphModel", "reach", "()V"⟩, 13) := ⟨⟨by decide +kernel, by decide +kernel⟩, List.mem_of_getElem? (i := 314) (by decide +kernel), List.mem_of_getElem? (i := 403) (by decide +kernel), List.mem_of_getElem? (i := 404) (by decide +kernel)⟩
theorem lw_p13 : lw_okq (⟨"GameGraphModel", "spread", "([Z)V"⟩, 13) := ⟨⟨by decide +kernel, by decide +kernel⟩, List.mem_of_getElem? (i := 314) (by decide +kernel), List.mem_of_getElem? (i := 407) (by decide +kernel), List.mem_of_getElem? (i := 408) (by decide +kernel)⟩
theorem lw_p14 : lw_okq (⟨"GameGraphModel", "defective", "()I"⟩, 13) := ⟨⟨by decide +kernel, by decide +kernel⟩, List.mem_of_getElem? (i := 314) (by decide +kernel), List.mem_of_getElem? (i := 415) (by decide +kernel), List.mem_of_getElem? (i := 416) (by decide +kernel)⟩
theorem lw_p15 : lw_okq (⟨"GameGraphModel", "own", "(I)I"⟩, 13) := ⟨⟨by decide +kernel, by decide +kernel⟩, List.mem_of_getElem? (i := 314) (by decide +kernel), List.mem_of_getElem? (i := 419) (by decide +kernel), List.mem_of_getElem? (i := 420) (by decide +kernel)⟩
def lw_privs_1 : List (MethodName × Nat) := [(⟨"GameGraph", "look", "()V"⟩, 8), (⟨"GameGraph", "reach", "()V"⟩, 8), (⟨"GameGraph", "comesBack", "(I)Z"⟩, 8), (⟨"GameGraph", "measure", "()V"⟩, 8), (⟨"java/lang/Throwable", "fillInStackTrace", "(I)Ljava/lang/Throwable;"⟩, 6), (⟨"GameGraph", "find", "(I)LGameGraph$State;"⟩, 8), (⟨"GameGraph", "findReached", "(I)LGameGraph$State;"⟩, 8), (⟨"GameGraph", "valueOf", "(LGameGraph$State;)I"⟩, 8), (⟨"GameGraph", "search", "(LGameGraph$State;II)I"⟩, 8), (⟨"GameGraphModel", "isState", "(I)Z"⟩, 13), (⟨"GameGraphModel", "isJoint", "(II)Z"⟩, 13), (⟨"GameGraphModel", "joint", "(I)I"⟩, 13), (⟨"GameGraphModel", "reach", "()V"⟩, 13), (⟨"GameGraphModel", "spread", "([Z)V"⟩, 13), (⟨"GameGraphModel", "defective", "()I"⟩, 13), (⟨"GameGraphModel", "own", "(I)I"⟩, 13)]
theorem lw_r1 : ∀ q ∈ lw_privs_1, lw_okq q := List.forall_mem_cons.mpr ⟨lw_p0, List.forall_mem_cons.mpr ⟨lw_p1, List.forall_mem_cons.mpr ⟨lw_p2, List.forall_mem_cons.mpr ⟨lw_p3, List.forall_mem_cons.mpr ⟨lw_p4, List.forall_mem_cons.mpr ⟨lw_p5, List.forall_mem_cons.mpr ⟨lw_p6, List.forall_mem_cons.mpr ⟨lw_p7, List.forall_mem_cons.mpr ⟨lw_p8, List.forall_mem_cons.mpr ⟨lw_p9, List.forall_mem_cons.mpr ⟨lw_p10, List.forall_mem_cons.mpr ⟨lw_p11, List.forall_mem_cons.mpr ⟨lw_p12, List.forall_mem_cons.mpr ⟨lw_p13, List.forall_mem_cons.mpr ⟨lw_p14, List.forall_mem_cons.mpr ⟨lw_p15, fun _ h => absurd h List.not_mem_nil⟩⟩⟩⟩⟩⟩⟩⟩⟩⟩⟩⟩⟩⟩⟩⟩
theorem lw_p16 : lw_okq (⟨"GameGraphModel", "comesAgain", "(I)Z"⟩, 13) := ⟨⟨by decide +kernel, by decide +kernel⟩, List.mem_of_getElem? (i := 314) (by decide +kernel), List.mem_of_getElem? (i := 423) (by decide +kernel), List.mem_of_getElem? (i := 424) (by decide +kernel)⟩
theorem lw_p17 : lw_okq (⟨"GameGraphModel", "asked", "(I)Z"⟩, 13) := ⟨⟨by decide +kernel, by decide +kernel⟩, List.mem_of_getElem? (i := 314) (by decide +kernel), List.mem_of_getElem? (i := 431) (by decide +kernel), List.mem_of_getElem? (i := 432) (by decide +kernel)⟩
theorem lw_p18 : lw_okq (⟨"GameGraphModel", "learn", "(I)V"⟩, 13) := ⟨⟨by decide +kernel, by decide +kernel⟩, List.mem_of_getElem? (i := 314) (by decide +kernel), List.mem_of_getElem? (i := 435) (by decide +kernel), List.mem_of_getElem? (i := 436) (by decide +kernel)⟩
def lw_privs_2 : List (MethodName × Nat) := [(⟨"GameGraphModel", "comesAgain", "(I)Z"⟩, 13), (⟨"GameGraphModel", "asked", "(I)Z"⟩, 13), (⟨"GameGraphModel", "learn", "(I)V"⟩, 13)]
theorem lw_r2 : ∀ q ∈ lw_privs_2, lw_okq q := List.forall_mem_cons.mpr ⟨lw_p16, List.forall_mem_cons.mpr ⟨lw_p17, List.forall_mem_cons.mpr ⟨lw_p18, fun _ h => absurd h List.not_mem_nil⟩⟩⟩
def lw_privs : List (MethodName × Nat) := lw_privs_1 ++ (lw_privs_2)
def lw_tbl : List Cond := k2_sels lw_privs ++ tables_1
theorem lw_privs_ok : ∀ q ∈ lw_privs, lw_okq q := by
  show ∀ q ∈ lw_privs_1 ++ (lw_privs_2), lw_okq q
  exact List.forall_mem_append.mpr ⟨lw_r1, lw_r2⟩
-- ===== end of PART A; then your names; then what follows =====
-- ===== names: classes, fields, the picture, the world =====
def R_law : String := "GameGraphLaw"
def R_G : String := "GameGraph"
def R_S : String := "GameGraph$State"
def R_M : String := "GameGraphModel"
def F_G : u_T := fun k => match k with
  | 0 => ("GameGraph", "states", "[LGameGraph$State;", true)
  | 1 => ("GameGraph", "count", "I", false)
  | 2 => ("GameGraph", "isKnown", "Z", false)
  | 3 => ("GameGraph", "reached", "I", false)
  | 4 => ("GameGraph", "defect", "I", false)
  | 5 => ("GameGraph", "where", "I", false)
  | 6 => ("GameGraph", "way", "[I", true)
  | _ => ("GameGraph", "seen", "[Z", true)
def t_G : Nat → FieldType := fun k => match k with
  | 0 => .array (.object "GameGraph$State")
  | 1 => .int
  | 2 => .boolean
  | 3 => .int
  | 4 => .int
  | 5 => .int
  | 6 => .array .int
  | _ => .array .boolean
def F_S : u_T := fun k => match k with
  | 0 => ("GameGraph$State", "ends", "Z", false)
  | 1 => ("GameGraph$State", "first", "I", false)
  | 2 => ("GameGraph$State", "second", "I", false)
  | 3 => ("GameGraph$State", "joint", "I", false)
  | 4 => ("GameGraph$State", "next", "[I", true)
  | 5 => ("GameGraph$State", "isReached", "Z", false)
  | 6 => ("GameGraph$State", "gone", "I", false)
  | 7 => ("GameGraph$State", "isDone", "Z", false)
  | 8 => ("GameGraph$State", "length", "I", false)
  | 9 => ("GameGraph$State", "low", "I", false)
  | _ => ("GameGraph$State", "high", "I", false)
def t_S : Nat → FieldType := fun k => match k with
  | 0 => .boolean
  | 1 => .int
  | 2 => .int
  | 3 => .int
  | 4 => .array .int
  | 5 => .boolean
  | 6 => .int
  | 7 => .boolean
  | 8 => .int
  | 9 => .int
  | _ => .int
def F_M : u_T := fun k => match k with
  | 0 => ("GameGraphModel", "states", "I", false)
  | 1 => ("GameGraphModel", "open", "[Z", true)
  | 2 => ("GameGraphModel", "goalOne", "[I", true)
  | 3 => ("GameGraphModel", "goalTwo", "[I", true)
  | 4 => ("GameGraphModel", "movesOne", "[I", true)
  | 5 => ("GameGraphModel", "movesTwo", "[I", true)
  | 6 => ("GameGraphModel", "goes", "[I", true)
  | 7 => ("GameGraphModel", "reached", "[Z", true)
  | 8 => ("GameGraphModel", "from", "[Z", true)
  | 9 => ("GameGraphModel", "known", "[Z", true)
  | 10 => ("GameGraphModel", "value", "[I", true)
  | 11 => ("GameGraphModel", "length", "[I", true)
  | _ => ("GameGraphModel", "thrown", "I", false)
def t_M : Nat → FieldType := fun k => match k with
  | 0 => .int
  | 1 => .array .boolean
  | 2 => .array .int
  | 3 => .array .int
  | 4 => .array .int
  | 5 => .array .int
  | 6 => .array .int
  | 7 => .array .boolean
  | 8 => .array .boolean
  | 9 => .array .boolean
  | 10 => .array .int
  | 11 => .array .int
  | _ => .int
abbrev w_G : List Cond := u_ws R_G F_G 8
abbrev w_S : List Cond := u_ws R_S F_S 11
abbrev w_M : List Cond := u_ws R_M F_M 13
abbrev classes : List vw_C := [(R_G, F_G, 8), (R_S, F_S, 11), (R_M, F_M, 13)]
theorem n_G : ∀ a, a < 8 → ∀ b, b < 8 → a ≠ b → (F_G a).2.1 ≠ (F_G b).2.1 := by decide +kernel
theorem t_G_ok : ∀ k, k < 8 → parseFieldDescriptor (F_G k).2.2.1 = some (t_G k) := by decide +kernel
theorem n_S : ∀ a, a < 11 → ∀ b, b < 11 → a ≠ b → (F_S a).2.1 ≠ (F_S b).2.1 := by decide +kernel
theorem t_S_ok : ∀ k, k < 11 → parseFieldDescriptor (F_S k).2.2.1 = some (t_S k) := by decide +kernel
theorem n_M : ∀ a, a < 13 → ∀ b, b < 13 → a ≠ b → (F_M a).2.1 ≠ (F_M b).2.1 := by decide +kernel
theorem t_M_ok : ∀ k, k < 13 → parseFieldDescriptor (F_M k).2.2.1 = some (t_M k) := by decide +kernel
/-- the words that stay true under warmer tables -/
def TG : List Cond := lw_tbl.filter (fun w => w.onTables && w.keeps)
theorem i_G : ∀ w ∈ w_G, w ∈ TG := by decide +kernel
theorem i_S : ∀ w ∈ w_S, w ∈ TG := by decide +kernel
theorem i_M : ∀ w ∈ w_M, w ∈ TG := by decide +kernel
/-- the picture: object number, slot -/
abbrev Pic : Type := Nat → Nat → Int32
def pu (h : Pic) (k i : Nat) (v : Int32) : Pic := fun k' i' => if k' = k ∧ i' = i then v else h k' i'
/-- the ghosts: class numbers and slots; addresses of the world's cells; array classes (int, boolean, State, long); the heap at the law's start -/
abbrev Gh : Type := va_G × (Nat → Nat) × (ClassId × ClassId × ClassId × ClassId) × Heap
abbrev gA (g : Gh) : Nat → Nat := g.2.1
abbrev gI (g : Gh) : ClassId := g.2.2.1.1
abbrev gZ (g : Gh) : ClassId := g.2.2.1.2.1
abbrev gQ (g : Gh) : ClassId := g.2.2.1.2.2.1
abbrev gJ (g : Gh) : ClassId := g.2.2.1.2.2.2
abbrev gH (g : Gh) : Heap := g.2.2.2
abbrev gt (g : Gh) : List (ClassId × FieldType) := [(gI g, .int), (gZ g, .boolean), (gQ g, .object "GameGraph$State"), (gJ g, .long)]
def gF (g : Gh) (h : Pic) : List Value := [.ref (gA g 1), .int (h 0 1), .int (h 0 2), .int (h 0 3), .int (h 0 4), .int (h 0 5), .ref (gA g 2), .ref (gA g 3)]
def sF (g : Gh) (h : Pic) (n : Nat) : List Value := [.int (h (17 + n) 0), .int (h (17 + n) 1), .int (h (17 + n) 2), .int (h (17 + n) 3), .ref (gA g (77 + n)), .int (h (17 + n) 5), .int (h (17 + n) 6), .int (h (17 + n) 7), .int (h (17 + n) 8), .int (h (17 + n) 9), .int (h (17 + n) 10)]
def mF (g : Gh) (h : Pic) : List Value := [.int (h 4 0), .ref (gA g 5), .ref (gA g 6), .ref (gA g 7), .ref (gA g 8), .ref (gA g 9), .ref (gA g 10), .ref (gA g 11), .ref (gA g 12), .ref (gA g 13), .ref (gA g 14), .ref (gA g 15), .int (h 4 12)]
/-- 0 the graph, 1 its states, 2 way, 3 seen, 4 the model, 5 .. 15 its arrays, 16 out, 17 + n a state, 77 + n its moves -/
def cel (g : Gh) (h : Pic) (k : Nat) : va_E :=
  if k = 0 then .inr (0, gF g h)
  else if k = 1 then .inl (gQ g, 60, .inr (.inr (.inr (.inr (fun i => some (gA g (17 + i)))))))
  else if k = 2 then .inl (gI g, 60, .inl (h 2))
  else if k = 3 then .inl (gZ g, 60, .inl (h 3))
  else if k = 4 then .inr (2, mF g h)
  else if k = 5 ∨ k = 11 ∨ k = 12 ∨ k = 13 then .inl (gZ g, 60, .inl (h k))
  else if k = 10 then .inl (gI g, 720, .inl (h 10))
  else if k = 16 then .inl (gJ g, 1, .inr (.inl (fun i => (h 16 i).toInt64)))
  else if k < 17 then .inl (gI g, 60, .inl (h k))
  else if k < 77 then .inr (1, sF g h (k - 17))
  else .inl (gI g, 12, .inl (h k))
def wl (g : Gh) (h : Pic) : va_W := (List.range 137).map (fun k => (gA g k, cel g h k))
/-- the world's addresses -/
def gW (g : Gh) : Nat → Prop := fun q => ∃ k, k < 137 ∧ q = gA g k
/-- the ghosts are sound: addresses apart, none old -/
def gOk (g : Gh) : Prop := (∀ i j, i < 137 → j < 137 → gA g i = gA g j → i = j) ∧ ∀ i, i < 137 → (gH g).size ≤ gA g i
def Wd (g : Gh) (h : Pic) (H : Heap) : Prop := va_P g.1 classes (wl g h) H ∧ va_S (gW g) (gH g) H []
theorem wl_get {g : Gh} {h : Pic} {k : Nat} (hk : k < 137) : (wl g h)[k]? = some (gA g k, cel g h k) := by
  unfold wl
  rw [List.getElem?_map, List.getElem?_range hk]
  rfl
theorem wl_D {g : Gh} (hg : gOk g) (h : Pic) : va_D (gW g) (wl g h) := by
  have key : ∀ (k : Nat) (q : Nat × va_E), (wl g h)[k]? = some q → k < 137 ∧ q.1 = gA g k := by
    intro k q hq
    have hl : k < 137 := by
      have := (List.getElem?_eq_some_iff.mp hq).1
      simpa [wl] using this
    rw [wl_get hl] at hq
    cases hq
    exact ⟨hl, rfl⟩
  refine ⟨fun i j x y hi hj hxy => ?_, fun k q hk => ?_⟩
  · obtain ⟨a1, a2⟩ := key i x hi
    obtain ⟨b1, b2⟩ := key j y hj
    exact hg.1 i j a1 b1 (by rw [← a2, ← b2]; exact hxy)
  · obtain ⟨a1, a2⟩ := key k q hk
    exact ⟨k, a1, a2⟩
theorem wl_set {g : Gh} {h h' : Pic} {k : Nat} {e : va_E} (hk : k < 137) (he : cel g h' k = e) (ho : ∀ j, j < 137 → j ≠ k → cel g h' j = cel g h j) : (wl g h).set k (gA g k, e) = wl g h' := by
  apply List.ext_getElem?
  intro i
  by_cases hi : i < 137
  · by_cases hik : i = k
    · subst hik
      rw [List.getElem?_set_self (by simpa [wl] using hi), wl_get hi, he]
    · rw [List.getElem?_set_ne (Ne.symm hik), wl_get hi, wl_get hi, ho i hi hik]
  · rw [List.getElem?_eq_none (by simp [wl]; omega), List.getElem?_eq_none (by simp [wl]; omega)]
theorem pu_self {h : Pic} {k i : Nat} {v : Int32} : pu h k i v k i = v := by simp [pu]
theorem pu_k {h : Pic} {k i k' i' : Nat} {v : Int32} (e : k' ≠ k) : pu h k i v k' i' = h k' i' := by simp [pu, e]
theorem pu_i {h : Pic} {k i k' i' : Nat} {v : Int32} (e : i' ≠ i) : pu h k i v k' i' = h k' i' := by simp [pu, e]
theorem pu_row {h : Pic} {k i k' : Nat} {v : Int32} (e : k' ≠ k) : pu h k i v k' = h k' := funext fun _ => pu_k e
theorem pu_upd {h : Pic} {k i : Nat} {v : Int32} : pu h k i v k = upd (h k) i v := by
  funext j
  simp [pu, upd]
theorem cel_st {g : Gh} {h : Pic} {n : Nat} (hn : n < 60) : cel g h (17 + n) = .inr (1, sF g h n) := by
  unfold cel
  rw [if_neg (by omega), if_neg (by omega), if_neg (by omega), if_neg (by omega), if_neg (by omega), if_neg (by omega), if_neg (by omega), if_neg (by omega), if_neg (by omega), if_pos (by omega)]
  rw [Nat.add_sub_cancel_left]
theorem cel_nx {g : Gh} {h : Pic} {n : Nat} : cel g h (77 + n) = .inl (gI g, 12, .inl (h (77 + n))) := by
  unfold cel
  rw [if_neg (by omega), if_neg (by omega), if_neg (by omega), if_neg (by omega), if_neg (by omega), if_neg (by omega), if_neg (by omega), if_neg (by omega), if_neg (by omega), if_neg (by omega)]
/-- a cell's picture is its own row alone -/
theorem cel_row {g : Gh} {h h' : Pic} {k : Nat} (e : h' k = h k) : cel g h' k = cel g h k := by
  unfold cel
  by_cases h0 : k = 0
  · subst h0; simp [gF, e]
  by_cases h1 : k = 1
  · subst h1; simp
  by_cases h2 : k = 2
  · subst h2; simp [e]
  by_cases h3 : k = 3
  · subst h3; simp [e]
  by_cases h4 : k = 4
  · subst h4; simp [mF, e]
  by_cases h10 : k = 10
  · subst h10; simp [e]
  by_cases h16 : k = 16
  · subst h16; simp [e]
  rw [if_neg h0, if_neg h1, if_neg h2, if_neg h3, if_neg h4, if_neg h0, if_neg h1, if_neg h2, if_neg h3, if_neg h4, e, if_neg h10, if_neg h10, if_neg h16, if_neg h16]
  by_cases h17 : k < 77
  · by_cases h18 : k < 17
    · rw [if_pos h18, if_pos h18]
    · have hk : 17 + (k - 17) = k := by omega
      simp only [sF, hk, e]
  · rw [if_neg h17, if_neg h17]
end
section
-- ===== what is known of the tables, wherever the program stands =====
/-- pairs of classes that don't cast -/
def NC : List Cond := [.not (.castable "java/lang/IllegalArgumentException" "java/lang/IndexOutOfBoundsException"), .not (.castable "java/lang/IndexOutOfBoundsException" "java/lang/IllegalStateException")]
def tr_w : Cond → Bool
  | .fieldLinkNest .. => true
  | .methodLinkNest .. => true
  | .castable .. => true
  | .not (.castable ..) => true
  | .declares _ => true
  | .arrayClass _ => true
  | .arrayOver (.object _) => true
  | w => w.onTables && w.keeps
/-- all words that walks use -/
def TA : List Cond := (lw_tbl ++ NC).filter tr_w
theorem TG_TA : ∀ w ∈ TG, w ∈ TA := by
  intro w hw
  obtain ⟨h1, h2⟩ := List.mem_filter.mp hw
  refine List.mem_filter.mpr ⟨List.mem_append.mpr (Or.inl h1), ?_⟩
  unfold tr_w
  split <;> first | rfl | exact h2
/-- words that look at the cell of statics -/
def SW : List Cond := [.laysStatic "java/lang/Throwable" "UNASSIGNED_STACK" "[Ljava/lang/StackTraceElement;", .laysStatic "java/lang/Throwable" "SUPPRESSED_SENTINEL" "Ljava/util/List;", .isRef (.static "java/lang/Throwable" "UNASSIGNED_STACK" "[Ljava/lang/StackTraceElement;"), .isRef (.static "java/lang/Throwable" "SUPPRESSED_SENTINEL" "Ljava/util/List;")]
def Kv (g : Gh) (vm : Vm) : Prop :=
  (∀ w ∈ TA, ∀ (a : Array Value) (S : State), S.vm = vm → w.before a S = true) ∧
  (∀ w ∈ SW, ∀ (a : Array Value) (S : State), S.vm = vm → (∀ q : Nat, q < (gH g).size → S.heap[q]? = (gH g)[q]?) → w.before a S = true) ∧
  (∀ S : State, S.vm = vm → va_K g.1 classes (gt g) S)
theorem vm_eq {S : State} {vm : Vm} (h : S.vm = vm) : S = S.setVm vm := by
  subst h
  rfl
theorem tr_warm {s : State} {vm' : Vm} (hW : s.WarmedH vm') {w : Cond} (ht : tr_w w = true) (h : ∀ (a : Array Value) (S : State), S.vm = s.vm → w.before a S = true) (a : Array Value) (S : State) (hS : S.vm = vm') : w.before a S = true := by
  have hWS : s.WarmedH S.vm := by rw [hS]; exact hW
  have h0 := h #[] s rfl
  have key : (w.onTables && w.keeps) = true → w.before a S = true := fun hc => word_at hWS (Or.inl hc) h0
  unfold tr_w at ht
  split at ht
  · exact va_Nw.use rfl (va_Nw.warmF hWS h0)
  · exact va_Nw.use rfl (va_Nw.warmM hWS h0)
  · exact va_Nw.use rfl (va_Nw.warmC hWS h0)
  · obtain ⟨c, t, h1, h2, h3⟩ := va_Nc.moved hWS.alike (va_Nc.of h0)
    simp [Cond.before, Cond.holds, Cond.value, h1, h2, h3]
  · exact va_Nw.use rfl (va_Nw.warmD hWS h0)
  · exact word_at hWS (Or.inr ⟨_, rfl⟩) h0
  · exact va_AO.use (va_AO.moved hWS.alike (va_AO.of h0))
  · exact key ht
theorem Kv.warm {g : Gh} {s : State} {vm' : Vm} (hW : s.WarmedH vm') (h : Kv g s.vm) : Kv g vm' := by
  refine ⟨fun w hw a S hS => tr_warm hW (List.mem_filter.mp hw).2 (h.1 w hw) a S hS, fun w hw a S hS hH => ?_, fun S hS => ?_⟩
  · have h1 := h.2.1 w hw a (S.setVm s.vm) rfl hH
    have hal : s.vm.Alike vm' := hW.alike
    have hst : w.steady = true := by
      simp only [SW, List.mem_cons, List.not_mem_nil, or_false] at hw
      rcases hw with rfl | rfl | rfl | rfl <;> rfl
    have e : S = (S.setVm s.vm).setVm vm' := by rw [State.setVm_twice]; exact vm_eq hS
    have h2 := Cond.value_setVm (args := a) (s := S.setVm s.vm) (vm' := vm') (o := none) hal w [] hst
    rw [← e] at h2
    simp only [Cond.before, Cond.holds] at h1 ⊢
    rw [h2]
    exact h1
  · exact va_K.moved (u := s) (U := S) (by rw [hS]; exact hW.alike) (h.2.2 s rfl)
end
section
-- ===== the judgement V: W over the whole world's picture; a row an instruction =====
abbrev MT : Type := Program × Env × State × MethodId × List Frame × Method × Code
abbrev mP (M : MT) : Program := M.1
abbrev mE (M : MT) : Env := M.2.1
abbrev mS (M : MT) : State := M.2.2.1
abbrev mM (M : MT) : MethodId := M.2.2.2.1
abbrev mB (M : MT) : List Frame := M.2.2.2.2.1
abbrev mT (M : MT) : Method := M.2.2.2.2.2.1
abbrev mC (M : MT) : Code := M.2.2.2.2.2.2
/-- what a walk may lean on: the machine, the method's bytes, its class, the tables, the ghosts, the world at its start -/
def Cx (args : Array Value) (M : MT) (g : Gh) (own : String) (cc : ByteArray) (nL : Nat) : Prop :=
  (mP M).tables.exec = Jvm.exec ∧ (mC M).code = cc ∧ (mC M).maxLocals = nL ∧ (mS M).vm.findClass own = some (mM M).cls ∧ Kv g (mS M).vm ∧ gOk g ∧ (mT M).locks = false ∧
  (∀ k, k < 137 → ∀ cell : Cell, (mS M).heap[gA g k]? = some cell → cell.vm.isStatics = false) ∧ (mE M).platform.stackTraces = false ∧ (∀ q : Nat, q < (gH g).size → (mS M).heap[q]? = (gH g)[q]?)
def V (l : Launch) (R : Room) (args : Array Value) (M : MT) (g : Gh) (nL : Nat) (Q : State → Prop) (cells slots : Nat) (h : Pic) (pc : Nat) (lv : List (Nat × Value)) (st : List Value) : Prop :=
  ∀ (H : Heap) (locs : List Loc) (la : Array Slot), va_P g.1 classes (wl g h) H → va_S (gW g) (gH g) H locs → lv_has la nL lv → W (mP M) l (mE M) R (mS M) (mM M) args (mB M) (mT M) (mC M) H locs cells slots Q (F0 (mM M) pc la st)
def lvq : List (Nat × Value) → Nat → Option Value
  | [], _ => none
  | (j, v) :: r, i => if j = i then some v else lvq r i
theorem lvq_mem {lv : List (Nat × Value)} {i : Nat} {v : Value} (h : lvq lv i = some v) : (i, v) ∈ lv := by
  induction lv with
  | nil => cases h
  | cons q r ih =>
    obtain ⟨j, w⟩ := q
    unfold lvq at h
    by_cases hj : j = i
    · rw [if_pos hj] at h
      cases h
      rw [hj]
      exact List.mem_cons_self
    · rw [if_neg hj] at h
      exact List.mem_cons_of_mem _ (ih h)
theorem lvq_at {la : Array Slot} {nL : Nat} {lv : List (Nat × Value)} {i : Nat} {v : Value} (hl : lv_has la nL lv) (h : lvq lv i = some v) : la[i]? = some (.val v) := hl.2.2 _ (lvq_mem h)
/-- the list lv' is lv with v at i (or less) -/
def lvu (lv : List (Nat × Value)) (i : Nat) (v : Value) (lv' : List (Nat × Value)) : Prop := lv'.map (fun q => if q.1 = i then some v else lvq lv q.1) = lv'.map (fun q => some q.2)
theorem map_at {α β : Type} {f f' : α → β} {l : List α} (h : l.map f = l.map f') {a : α} (ha : a ∈ l) : f a = f' a := by
  induction l with
  | nil => cases ha
  | cons b r ih =>
    simp only [List.map_cons, List.cons.injEq] at h
    rcases List.mem_cons.mp ha with rfl | h1
    · exact h.1
    · exact ih h.2 h1
theorem lvu_has {la' : Array Slot} {nL i : Nat} {v : Value} {lv lv' : List (Nat × Value)} (hc : (lv'.all fun q => q.2.category == 1) = true) (hu : lvu lv i v lv') (h : lv_has la' nL ((i, v) :: lv.filter (fun q => !(q.1 == i) && !(q.1 + 1 == i && q.2.category == 2)))) : lv_has la' nL lv' := by
  refine ⟨h.1, h.2.1, fun q hq => ?_⟩
  have h1 := map_at hu hq
  by_cases hi : q.1 = i
  · rw [if_pos hi] at h1
    have h2 : v = q.2 := Option.some.inj h1
    have h3 := h.2.2 (i, v) List.mem_cons_self
    rw [hi, ← h2]
    exact h3
  · rw [if_neg hi] at h1
    have h2 := lvq_mem h1
    have h3 : q.2.category = 1 := by
      have := List.all_eq_true.mp hc q hq
      simpa using this
    exact h.2.2 q (List.mem_cons_of_mem _ (List.mem_filter.mpr ⟨h2, by simp [hi, h3]⟩))
section VR
variable {l : Launch} {R : Room} {args : Array Value} {M : MT} {g : Gh} {own : String} {cc : ByteArray} {nL : Nat} {Q : State → Prop} {cells slots : Nat} {h : Pic} {pc : Nat} {lv lv' : List (Nat × Value)} {st : List Value}
theorem V_lv (lv' : List (Nat × Value)) (hu : lv'.map (fun q => lvq lv q.1) = lv'.map (fun q => some q.2)) (k : V l R args M g nL Q cells slots h pc lv' st) : V l R args M g nL Q cells slots h pc lv st :=
  fun H locs la hP hS hl => k H locs la hP hS ⟨hl.1, hl.2.1, fun q hq => lvq_at hl (map_at hu hq)⟩
theorem V_wide {c' s' : Nat} (h1 : cells ≤ c') (h2 : slots ≤ s') (k : V l R args M g nL Q c' s' h pc lv st) : V l R args M g nL Q cells slots h pc lv st :=
  fun H locs la hP hS hl => W.widen h1 h2 (k H locs la hP hS hl)
theorem V_eq {st' : List Value} (e : st' = st) (k : V l R args M g nL Q cells slots h pc lv st) : V l R args M g nL Q cells slots h pc lv st' := e ▸ k
theorem V_topi {x : Int32} (y : Int32) (e : x = y) (k : V l R args M g nL Q cells slots h pc lv (.int y :: st)) : V l R args M g nL Q cells slots h pc lv (.int x :: st) := e ▸ k
theorem V_name {x : Int32} (k : ∀ y : Int32, y = x → V l R args M g nL Q cells slots h pc lv (.int y :: st)) : V l R args M g nL Q cells slots h pc lv (.int x :: st) := k x rfl
theorem V_iconst (C : Cx args M g own cc nL) {n : Int} {v : Int32} (d : decode cc pc = .ok (.iconst n, 1)) (hv : Int32.ofInt n = v) (k : V l R args M g nL Q cells slots h (pc + 1) lv (.int v :: st)) : V l R args M g nL Q cells slots h pc lv st :=
  fun H locs la hP hS hl => lv_iconst C.1 C.2.1 d hv (k H locs la hP hS hl)
theorem V_bipush (C : Cx args M g own cc nL) {n : Int} {v : Int32} (d : decode cc pc = .ok (.bipush n, 2)) (hv : (Int8.ofInt n).toInt32 = v) (k : V l R args M g nL Q cells slots h (pc + 2) lv (.int v :: st)) : V l R args M g nL Q cells slots h pc lv st :=
  fun H locs la hP hS hl => lv_bipush C.1 C.2.1 d hv (k H locs la hP hS hl)
theorem V_iload_n (C : Cx args M g own cc nL) {i : Fin 4} {x : Int32} (d : decode cc pc = .ok (.iload_n i, 1)) (hv : lvq lv i.val = some (.int x)) (k : V l R args M g nL Q cells slots h (pc + 1) lv (.int x :: st)) : V l R args M g nL Q cells slots h pc lv st :=
  fun H locs la hP hS hl => lv_iload_n C.1 C.2.1 d rfl (lvq_at hl hv) (k H locs la hP hS hl)
theorem V_iload (C : Cx args M g own cc nL) {i : Nat} {x : Int32} (d : decode cc pc = .ok (.iload i, 2)) (hv : lvq lv i = some (.int x)) (k : V l R args M g nL Q cells slots h (pc + 2) lv (.int x :: st)) : V l R args M g nL Q cells slots h pc lv st :=
  fun H locs la hP hS hl => lv_iload C.1 C.2.1 d (lvq_at hl hv) (k H locs la hP hS hl)
theorem V_aload_n (C : Cx args M g own cc nL) {i : Fin 4} {x : Nat} (d : decode cc pc = .ok (.aload_n i, 1)) (hv : lvq lv i.val = some (.ref x)) (k : V l R args M g nL Q cells slots h (pc + 1) lv (.ref x :: st)) : V l R args M g nL Q cells slots h pc lv st :=
  fun H locs la hP hS hl => lv_aload_n C.1 C.2.1 d rfl (lvq_at hl hv) (k H locs la hP hS hl)
theorem V_aload (C : Cx args M g own cc nL) {i : Nat} {x : Nat} (d : decode cc pc = .ok (.aload i, 2)) (hv : lvq lv i = some (.ref x)) (k : V l R args M g nL Q cells slots h (pc + 2) lv (.ref x :: st)) : V l R args M g nL Q cells slots h pc lv st :=
  fun H locs la hP hS hl => lv_aload C.1 C.2.1 d (lvq_at hl hv) (k H locs la hP hS hl)
theorem V_istore_n (C : Cx args M g own cc nL) (lv' : List (Nat × Value)) {i : Fin 4} {x : Int32} (d : decode cc pc = .ok (.istore_n i, 1)) (hn : i.val < nL) (hc : (lv'.all fun q => q.2.category == 1) = true) (hu : lvu lv i.val (.int x) lv') (k : V l R args M g nL Q cells slots h (pc + 1) lv' st) : V l R args M g nL Q cells slots h pc lv (.int x :: st) :=
  fun H locs la hP hS hl => lv_istore_n C.1 C.2.1 d rfl hl hn rfl (fun la' hl' => k H locs la' hP hS (lvu_has hc hu hl'))
theorem V_istore (C : Cx args M g own cc nL) (lv' : List (Nat × Value)) {i : Nat} {x : Int32} (d : decode cc pc = .ok (.istore i, 2)) (hn : i < nL) (hc : (lv'.all fun q => q.2.category == 1) = true) (hu : lvu lv i (.int x) lv') (k : V l R args M g nL Q cells slots h (pc + 2) lv' st) : V l R args M g nL Q cells slots h pc lv (.int x :: st) :=
  fun H locs la hP hS hl => lv_istore C.1 C.2.1 d hl hn rfl (fun la' hl' => k H locs la' hP hS (lvu_has hc hu hl'))
theorem V_astore_n (C : Cx args M g own cc nL) (lv' : List (Nat × Value)) {i : Fin 4} {x : Nat} (d : decode cc pc = .ok (.astore_n i, 1)) (hn : i.val < nL) (hc : (lv'.all fun q => q.2.category == 1) = true) (hu : lvu lv i.val (.ref x) lv') (k : V l R args M g nL Q cells slots h (pc + 1) lv' st) : V l R args M g nL Q cells slots h pc lv (.ref x :: st) :=
  fun H locs la hP hS hl => lv_astore_n C.1 C.2.1 d rfl hl hn rfl (fun la' hl' => k H locs la' hP hS (lvu_has hc hu hl'))
theorem V_astore (C : Cx args M g own cc nL) (lv' : List (Nat × Value)) {i : Nat} {x : Nat} (d : decode cc pc = .ok (.astore i, 2)) (hn : i < nL) (hc : (lv'.all fun q => q.2.category == 1) = true) (hu : lvu lv i (.ref x) lv') (k : V l R args M g nL Q cells slots h (pc + 2) lv' st) : V l R args M g nL Q cells slots h pc lv (.ref x :: st) :=
  fun H locs la hP hS hl => lv_astore C.1 C.2.1 d hl hn rfl (fun la' hl' => k H locs la' hP hS (lvu_has hc hu hl'))
theorem V_iinc (C : Cx args M g own cc nL) (lv' : List (Nat × Value)) {i : Nat} {n : Int} {x v : Int32} (d : decode cc pc = .ok (.iinc i n, 3)) (hq : lvq lv i = some (.int x)) (hv : x + Int32.ofInt n = v) (hn : i < nL) (hc : (lv'.all fun q => q.2.category == 1) = true) (hu : lvu lv i (.int v) lv') (k : V l R args M g nL Q cells slots h (pc + 3) lv' st) : V l R args M g nL Q cells slots h pc lv st := by
  intro H locs la hP hS hl
  obtain ⟨j, hj⟩ := List.getElem?_of_mem (lvq_mem hq)
  exact lv_iinc C.1 C.2.1 d hl hj hv hn rfl (fun la' hl' => k H locs la' hP hS (lvu_has hc hu hl'))
theorem V_iadd (C : Cx args M g own cc nL) {x y : Int32} (d : decode cc pc = .ok (.iadd, 1)) (k : V l R args M g nL Q cells slots h (pc + 1) lv (.int (x + y) :: st)) : V l R args M g nL Q cells slots h pc lv (.int y :: .int x :: st) :=
  fun H locs la hP hS hl => lv_iadd C.1 C.2.1 d (k H locs la hP hS hl)
theorem V_isub (C : Cx args M g own cc nL) {x y : Int32} (d : decode cc pc = .ok (.isub, 1)) (k : V l R args M g nL Q cells slots h (pc + 1) lv (.int (x - y) :: st)) : V l R args M g nL Q cells slots h pc lv (.int y :: .int x :: st) :=
  fun H locs la hP hS hl => lv_isub C.1 C.2.1 d (k H locs la hP hS hl)
theorem V_imul (C : Cx args M g own cc nL) {x y : Int32} (d : decode cc pc = .ok (.imul, 1)) (k : V l R args M g nL Q cells slots h (pc + 1) lv (.int (x * y) :: st)) : V l R args M g nL Q cells slots h pc lv (.int y :: .int x :: st) :=
  fun H locs la hP hS hl => lv_imul C.1 C.2.1 d (k H locs la hP hS hl)
theorem V_iand (C : Cx args M g own cc nL) {x y : Int32} (d : decode cc pc = .ok (.iand, 1)) (k : V l R args M g nL Q cells slots h (pc + 1) lv (.int (x &&& y) :: st)) : V l R args M g nL Q cells slots h pc lv (.int y :: .int x :: st) :=
  fun H locs la hP hS hl => lv_iand C.1 C.2.1 d (k H locs la hP hS hl)
theorem V_dup (C : Cx args M g own cc nL) {va : Value} (d : decode cc pc = .ok (.dup, 1)) (hva : va.category = 1) (k : V l R args M g nL Q cells slots h (pc + 1) lv (va :: va :: st)) : V l R args M g nL Q cells slots h pc lv (va :: st) :=
  fun H locs la hP hS hl => lv_dup C.1 C.2.1 d hva (k H locs la hP hS hl)
theorem V_i2l (C : Cx args M g own cc nL) {x : Int32} (d : decode cc pc = .ok (.i2l, 1)) (k : V l R args M g nL Q cells slots h (pc + 1) lv (.long x.toInt64 :: st)) : V l R args M g nL Q cells slots h pc lv (.int x :: st) :=
  fun H locs la hP hS hl => lv_i2l C.1 C.2.1 d rfl (k H locs la hP hS hl)
theorem V_lcmp (C : Cx args M g own cc nL) {x y : Int64} (d : decode cc pc = .ok (.lcmp, 1)) (k : V l R args M g nL Q cells slots h (pc + 1) lv (.int (lg_cmp x y) :: st)) : V l R args M g nL Q cells slots h pc lv (.long y :: .long x :: st) :=
  fun H locs la hP hS hl => W.lcmp C.1 C.2.1 d (k H locs la hP hS hl)
theorem V_goto (C : Cx args M g own cc nL) {off : Int} (tgt : Nat) (d : decode cc pc = .ok (.goto off, 3)) (ht : (pc : Int) + off = (tgt : Int)) (k : V l R args M g nL Q cells slots h tgt lv st) : V l R args M g nL Q cells slots h pc lv st :=
  fun H locs la hP hS hl => lv_goto C.1 C.2.1 d ht (k H locs la hP hS hl)
theorem V_if_eq (C : Cx args M g own cc nL) {off : Int} (tgt : Nat) {x : Int32} (d : decode cc pc = .ok (.ifCond .eq off, 3)) (ht : (pc : Int) + off = (tgt : Int)) (kt : x = 0 → V l R args M g nL Q cells slots h tgt lv st) (kf : ¬ x = 0 → V l R args M g nL Q cells slots h (pc + 3) lv st) : V l R args M g nL Q cells slots h pc lv (.int x :: st) :=
  fun H locs la hP hS hl => lv_if_eq C.1 C.2.1 d ht (fun q => kt q H locs la hP hS hl) (fun q => kf q H locs la hP hS hl)
theorem V_if_ne (C : Cx args M g own cc nL) {off : Int} (tgt : Nat) {x : Int32} (d : decode cc pc = .ok (.ifCond .ne off, 3)) (ht : (pc : Int) + off = (tgt : Int)) (kt : ¬ x = 0 → V l R args M g nL Q cells slots h tgt lv st) (kf : x = 0 → V l R args M g nL Q cells slots h (pc + 3) lv st) : V l R args M g nL Q cells slots h pc lv (.int x :: st) :=
  fun H locs la hP hS hl => lv_if_ne C.1 C.2.1 d ht (fun q => kt q H locs la hP hS hl) (fun q => kf (by first | exact q | exact Classical.not_not.mp q) H locs la hP hS hl)
theorem V_if_lt (C : Cx args M g own cc nL) {off : Int} (tgt : Nat) {x : Int32} (d : decode cc pc = .ok (.ifCond .lt off, 3)) (ht : (pc : Int) + off = (tgt : Int)) (kt : x < 0 → V l R args M g nL Q cells slots h tgt lv st) (kf : ¬ x < 0 → V l R args M g nL Q cells slots h (pc + 3) lv st) : V l R args M g nL Q cells slots h pc lv (.int x :: st) :=
  fun H locs la hP hS hl => lv_if_lt C.1 C.2.1 d ht (fun q => kt q H locs la hP hS hl) (fun q => kf q H locs la hP hS hl)
theorem V_if_ge (C : Cx args M g own cc nL) {off : Int} (tgt : Nat) {x : Int32} (d : decode cc pc = .ok (.ifCond .ge off, 3)) (ht : (pc : Int) + off = (tgt : Int)) (kt : 0 ≤ x → V l R args M g nL Q cells slots h tgt lv st) (kf : ¬ 0 ≤ x → V l R args M g nL Q cells slots h (pc + 3) lv st) : V l R args M g nL Q cells slots h pc lv (.int x :: st) :=
  fun H locs la hP hS hl => lv_if_ge C.1 C.2.1 d ht (fun q => kt q H locs la hP hS hl) (fun q => kf q H locs la hP hS hl)
theorem V_if_le (C : Cx args M g own cc nL) {off : Int} (tgt : Nat) {x : Int32} (d : decode cc pc = .ok (.ifCond .le off, 3)) (ht : (pc : Int) + off = (tgt : Int)) (kt : x ≤ 0 → V l R args M g nL Q cells slots h tgt lv st) (kf : ¬ x ≤ 0 → V l R args M g nL Q cells slots h (pc + 3) lv st) : V l R args M g nL Q cells slots h pc lv (.int x :: st) :=
  fun H locs la hP hS hl => lv_if_le C.1 C.2.1 d ht (fun q => kt q H locs la hP hS hl) (fun q => kf q H locs la hP hS hl)
theorem V_icmp_eq (C : Cx args M g own cc nL) {off : Int} (tgt : Nat) {x y : Int32} (d : decode cc pc = .ok (.if_icmp .eq off, 3)) (ht : (pc : Int) + off = (tgt : Int)) (kt : x = y → V l R args M g nL Q cells slots h tgt lv st) (kf : ¬ x = y → V l R args M g nL Q cells slots h (pc + 3) lv st) : V l R args M g nL Q cells slots h pc lv (.int y :: .int x :: st) :=
  fun H locs la hP hS hl => lv_icmp_eq C.1 C.2.1 d ht (fun q => kt q H locs la hP hS hl) (fun q => kf q H locs la hP hS hl)
theorem V_icmp_ne (C : Cx args M g own cc nL) {off : Int} (tgt : Nat) {x y : Int32} (d : decode cc pc = .ok (.if_icmp .ne off, 3)) (ht : (pc : Int) + off = (tgt : Int)) (kt : ¬ x = y → V l R args M g nL Q cells slots h tgt lv st) (kf : x = y → V l R args M g nL Q cells slots h (pc + 3) lv st) : V l R args M g nL Q cells slots h pc lv (.int y :: .int x :: st) :=
  fun H locs la hP hS hl => lv_icmp_ne C.1 C.2.1 d ht (fun q => kt q H locs la hP hS hl) (fun q => kf (by first | exact q | exact Classical.not_not.mp q) H locs la hP hS hl)
theorem V_icmp_lt (C : Cx args M g own cc nL) {off : Int} (tgt : Nat) {x y : Int32} (d : decode cc pc = .ok (.if_icmp .lt off, 3)) (ht : (pc : Int) + off = (tgt : Int)) (kt : x < y → V l R args M g nL Q cells slots h tgt lv st) (kf : ¬ x < y → V l R args M g nL Q cells slots h (pc + 3) lv st) : V l R args M g nL Q cells slots h pc lv (.int y :: .int x :: st) :=
  fun H locs la hP hS hl => lv_icmp_lt C.1 C.2.1 d ht (fun q => kt q H locs la hP hS hl) (fun q => kf q H locs la hP hS hl)
theorem V_icmp_ge (C : Cx args M g own cc nL) {off : Int} (tgt : Nat) {x y : Int32} (d : decode cc pc = .ok (.if_icmp .ge off, 3)) (ht : (pc : Int) + off = (tgt : Int)) (kt : y ≤ x → V l R args M g nL Q cells slots h tgt lv st) (kf : ¬ y ≤ x → V l R args M g nL Q cells slots h (pc + 3) lv st) : V l R args M g nL Q cells slots h pc lv (.int y :: .int x :: st) :=
  fun H locs la hP hS hl => lv_icmp_ge C.1 C.2.1 d ht (fun q => kt q H locs la hP hS hl) (fun q => kf q H locs la hP hS hl)
theorem V_icmp_gt (C : Cx args M g own cc nL) {off : Int} (tgt : Nat) {x y : Int32} (d : decode cc pc = .ok (.if_icmp .gt off, 3)) (ht : (pc : Int) + off = (tgt : Int)) (kt : y < x → V l R args M g nL Q cells slots h tgt lv st) (kf : ¬ y < x → V l R args M g nL Q cells slots h (pc + 3) lv st) : V l R args M g nL Q cells slots h pc lv (.int y :: .int x :: st) :=
  fun H locs la hP hS hl => lv_icmp_gt C.1 C.2.1 d ht (fun q => kt q H locs la hP hS hl) (fun q => kf q H locs la hP hS hl)
theorem V_icmp_le (C : Cx args M g own cc nL) {off : Int} (tgt : Nat) {x y : Int32} (d : decode cc pc = .ok (.if_icmp .le off, 3)) (ht : (pc : Int) + off = (tgt : Int)) (kt : x ≤ y → V l R args M g nL Q cells slots h tgt lv st) (kf : ¬ x ≤ y → V l R args M g nL Q cells slots h (pc + 3) lv st) : V l R args M g nL Q cells slots h pc lv (.int y :: .int x :: st) :=
  fun H locs la hP hS hl => lv_icmp_le C.1 C.2.1 d ht (fun q => kt q H locs la hP hS hl) (fun q => kf q H locs la hP hS hl)
-- the heap
theorem Cx.w (C : Cx args M g own cc nL) {w : Cond} (hw : w ∈ TA) : w.before args (mS M) = true := C.2.2.2.2.1.1 w hw args (mS M) rfl
theorem Cx.ts (C : Cx args M g own cc nL) : ∀ w ∈ TA, w.before args (mS M) = true := fun _ hw => C.w hw
theorem Cx.K (C : Cx args M g own cc nL) : va_K g.1 classes (gt g) (mS M) := C.2.2.2.2.1.2.2 (mS M) rfl
theorem Cx.ok (C : Cx args M g own cc nL) : gOk g := C.2.2.2.2.2.1
theorem V_getG (C : Cx args M g own cc nL) (i : Nat) {idx : Nat} (hi : i < 8) (hw : Cond.fieldLink own idx "GameGraph" (F_G i).2.1 (F_G i).2.2.1 ∈ TA) (hown : (F_G i).1 = "GameGraph") {v : Value} (hv : (gF g h)[i]? = some v) (d : decode cc pc = .ok (.getfield idx, 3)) (k : V l R args M g nL Q cells slots h (pc + 3) lv (v :: st)) : V l R args M g nL Q cells slots h pc lv (.ref (gA g 0) :: st) :=
  fun H locs la hP hS hl => va_get (ci := 0) (C := R_G) (T := F_G) (N := 8) C.1 C.2.1 C.ts (fun w hw => TG_TA w (i_G w hw)) C.2.2.2.1 C.K hP 0 (wl_get (by decide)) rfl i hi (C.w hw) (fun x hx => by rw [hown] at hx; exact hx) hv d (k H locs la hP hS hl)
theorem V_getM (C : Cx args M g own cc nL) (i : Nat) {idx : Nat} (hi : i < 13) (hw : Cond.fieldLink own idx "GameGraphModel" (F_M i).2.1 (F_M i).2.2.1 ∈ TA) (hown : (F_M i).1 = "GameGraphModel") {v : Value} (hv : (mF g h)[i]? = some v) (d : decode cc pc = .ok (.getfield idx, 3)) (k : V l R args M g nL Q cells slots h (pc + 3) lv (v :: st)) : V l R args M g nL Q cells slots h pc lv (.ref (gA g 4) :: st) :=
  fun H locs la hP hS hl => va_get (ci := 2) (C := R_M) (T := F_M) (N := 13) C.1 C.2.1 C.ts (fun w hw => TG_TA w (i_M w hw)) C.2.2.2.1 C.K hP 4 (wl_get (by decide)) rfl i hi (C.w hw) (fun x hx => by rw [hown] at hx; exact hx) hv d (k H locs la hP hS hl)
theorem V_getS (C : Cx args M g own cc nL) (n : Nat) (hn : n < 60) (i : Nat) {idx : Nat} (hi : i < 11) (hw : Cond.fieldLink own idx "GameGraph$State" (F_S i).2.1 (F_S i).2.2.1 ∈ TA) (hown : (F_S i).1 = "GameGraph$State") {v : Value} (hv : (sF g h n)[i]? = some v) (d : decode cc pc = .ok (.getfield idx, 3)) (k : V l R args M g nL Q cells slots h (pc + 3) lv (v :: st)) : V l R args M g nL Q cells slots h pc lv (.ref (gA g (17 + n)) :: st) :=
  fun H locs la hP hS hl => va_get (ci := 1) (C := R_S) (T := F_S) (N := 11) C.1 C.2.1 C.ts (fun w hw => TG_TA w (i_S w hw)) C.2.2.2.1 C.K hP (17 + n) (by rw [wl_get (by omega), cel_st hn]) rfl i hi (C.w hw) (fun x hx => by rw [hown] at hx; exact hx) hv d (k H locs la hP hS hl)
theorem V_getN (C : Cx args M g own cc nL) (n : Nat) (hn : n < 60) (i : Nat) {idx : Nat} (hi : i < 11) (hw : Cond.fieldLinkNest own idx "GameGraph$State" (F_S i).2.1 (F_S i).2.2.1 "GameGraph" ∈ TA) (hown : (F_S i).1 = "GameGraph$State") {v : Value} (hv : (sF g h n)[i]? = some v) (d : decode cc pc = .ok (.getfield idx, 3)) (k : V l R args M g nL Q cells slots h (pc + 3) lv (v :: st)) : V l R args M g nL Q cells slots h pc lv (.ref (gA g (17 + n)) :: st) :=
  fun H locs la hP hS hl => va_getN (ci := 1) (C := R_S) (T := F_S) (N := 11) C.1 C.2.1 C.ts (fun w hw => TG_TA w (i_S w hw)) C.2.2.2.1 C.K hP (17 + n) (by rw [wl_get (by omega), cel_st hn]) rfl i hi (C.w hw) (fun x hx => by rw [hown] at hx; exact hx) hv d (k H locs la hP hS hl)
theorem V_iald (C : Cx args M g own cc nL) (a N j : Nat) (ha : a < 137) (hc : cel g h a = .inl (gI g, N, .inl (h a))) {x : Int32} (hx : x = nI j) (hj : j < N) (hN : N < 2 ^ 31) (d : decode cc pc = .ok (.iaload, 1)) (k : V l R args M g nL Q cells slots h (pc + 1) lv (.int (h a j) :: st)) : V l R args M g nL Q cells slots h pc lv (.int x :: .ref (gA g a) :: st) := by
  subst hx
  intro H locs la hP hS hl
  refine va_iald C.1 C.2.1 C.K hP a 0 (by rw [wl_get ha, hc]) rfl (vp_in_nI hj hN) d ?_
  rw [nI_clamp (by omega)]
  exact k H locs la hP hS hl
theorem V_zald (C : Cx args M g own cc nL) (a N j : Nat) (ha : a < 137) (hc : cel g h a = .inl (gZ g, N, .inl (h a))) {x : Int32} (hx : x = nI j) (hj : j < N) (hN : N < 2 ^ 31) (d : decode cc pc = .ok (.baload, 1)) (k : V l R args M g nL Q cells slots h (pc + 1) lv (.int (h a j) :: st)) : V l R args M g nL Q cells slots h pc lv (.int x :: .ref (gA g a) :: st) := by
  subst hx
  intro H locs la hP hS hl
  refine va_zald C.1 C.2.1 C.K hP a 1 (by rw [wl_get ha, hc]) rfl (vp_in_nI hj hN) d ?_
  rw [nI_clamp (by omega)]
  exact k H locs la hP hS hl
theorem V_aald (C : Cx args M g own cc nL) (j : Nat) {x : Int32} (hx : x = nI j) (hj : j < 60) (d : decode cc pc = .ok (.aaload, 1)) (k : V l R args M g nL Q cells slots h (pc + 1) lv (.ref (gA g (17 + j)) :: st)) : V l R args M g nL Q cells slots h pc lv (.int x :: .ref (gA g 1) :: st) := by
  subst hx
  intro H locs la hP hS hl
  refine va_aldq (C := "GameGraph$State") (n := 60) (f := fun i => some (gA g (17 + i))) C.1 C.2.1 C.K hP 1 2 (by rw [wl_get (by decide)]; rfl) rfl (vp_in_nI hj (by decide)) d ?_
  rw [nI_clamp (by omega)]
  exact k H locs la hP hS hl
theorem V_lald (C : Cx args M g own cc nL) (d : decode cc pc = .ok (.laload, 1)) (k : V l R args M g nL Q cells slots h (pc + 1) lv (.long (h 16 0).toInt64 :: st)) : V l R args M g nL Q cells slots h pc lv (.int 0 :: .ref (gA g 16) :: st) := by
  intro H locs la hP hS hl
  exact va_lald (n := 1) (f := fun i => (h 16 i).toInt64) C.1 C.2.1 C.K hP 16 3 (by rw [wl_get (by decide)]; rfl) rfl (i := 0) (vp_in_nI (n := 0) (by decide) (by decide)) d (k H locs la hP hS hl)
theorem V_iast (C : Cx args M g own cc nL) (a N j : Nat) (ha : a < 137) (hc : ∀ h : Pic, cel g h a = .inl (gI g, N, .inl (h a))) {x y : Int32} (hx : x = nI j) (hj : j < N) (hN : N < 2 ^ 31) (d : decode cc pc = .ok (.iastore, 1)) (k : ∀ h' : Pic, h' = pu h a j y → V l R args M g nL Q cells slots h' (pc + 1) lv st) : V l R args M g nL Q cells slots h pc lv (.int y :: .int x :: .ref (gA g a) :: st) := by
  subst hx
  intro H locs la hP hS hl
  refine va_iast C.1 C.2.1 C.K hP (wl_D C.ok h) hS a 0 (by rw [wl_get ha, hc]) rfl (vp_in_nI hj hN) d (fun H1 locs1 hP1 _ hS1 => ?_)
  rw [nI_clamp (by omega)] at hP1
  refine k _ rfl H1 locs1 la ?_ hS1 hl
  rw [← wl_set (h := h) ha (by rw [hc, pu_upd]) (fun q _ hq => cel_row (pu_row hq))]
  exact hP1
theorem nar_z {y : Int32} (hy : y = 0 ∨ y = 1) : vp_nar .boolean y = y := by
  rcases hy with rfl | rfl <;> rfl
theorem V_zast (C : Cx args M g own cc nL) (a N j : Nat) (ha : a < 137) (hc : ∀ h : Pic, cel g h a = .inl (gZ g, N, .inl (h a))) {x y : Int32} (hx : x = nI j) (hj : j < N) (hN : N < 2 ^ 31) (hy : y = 0 ∨ y = 1) (d : decode cc pc = .ok (.bastore, 1)) (k : ∀ h' : Pic, h' = pu h a j y → V l R args M g nL Q cells slots h' (pc + 1) lv st) : V l R args M g nL Q cells slots h pc lv (.int y :: .int x :: .ref (gA g a) :: st) := by
  subst hx
  intro H locs la hP hS hl
  refine va_zast C.1 C.2.1 C.K hP (wl_D C.ok h) hS a 1 (by rw [wl_get ha, hc]) rfl (vp_in_nI hj hN) d (fun H1 locs1 hP1 _ hS1 => ?_)
  rw [nI_clamp (by omega), nar_z hy] at hP1
  refine k _ rfl H1 locs1 la ?_ hS1 hl
  rw [← wl_set (h := h) ha (by rw [hc, pu_upd]) (fun q _ hq => cel_row (pu_row hq))]
  exact hP1
theorem V_last (C : Cx args M g own cc nL) {y : Int32} (d : decode cc pc = .ok (.lastore, 1)) (k : ∀ h' : Pic, h' = pu h 16 0 y → V l R args M g nL Q cells slots h' (pc + 1) lv st) : V l R args M g nL Q cells slots h pc lv (.long y.toInt64 :: .int 0 :: .ref (gA g 16) :: st) := by
  intro H locs la hP hS hl
  refine va_last (n := 1) (f := fun i => (h 16 i).toInt64) C.1 C.2.1 C.K hP (wl_D C.ok h) hS 16 3 (by rw [wl_get (by decide)]; rfl) rfl (i := 0) (vp_in_nI (n := 0) (by decide) (by decide)) d (fun H1 locs1 hP1 _ hS1 => ?_)
  refine k _ rfl H1 locs1 la ?_ hS1 hl
  rw [← wl_set (h := h) (k := 16) (by decide) ?_ (fun q _ hq => cel_row (pu_row hq))]
  · exact hP1
  · show Sum.inl (gJ g, 1, Sum.inr (Sum.inl (fun i => (pu h 16 0 y 16 i).toInt64))) = _
    rw [sb_cl0]
    congr 5
    funext i
    simp only [pu, vp_updL]
    by_cases hi : i = 0
    · subst hi; simp
    · simp [hi]
theorem V_putG (C : Cx args M g own cc nL) (i : Nat) {idx : Nat} (hi : i < 8) (hw : Cond.fieldLink own idx "GameGraph" (F_G i).2.1 (F_G i).2.2.1 ∈ TA) (hown : (F_G i).1 = "GameGraph") (hfin : (F_G i).2.2.2 = false) {y : Int32} (hn : narrow (t_G i) (.int y) = .int y) (hf : fits (t_G i) (.int y) = true) (d : decode cc pc = .ok (.putfield idx, 3)) (k : ∀ h' : Pic, h' = pu h 0 i y → V l R args M g nL Q cells slots h' (pc + 3) lv st) : V l R args M g nL Q cells slots h pc lv (.int y :: .ref (gA g 0) :: st) := by
  intro H locs la hP hS hl
  refine va_put (ci := 0) (C := R_G) (T := F_G) (N := 8) C.1 C.2.1 C.ts (fun w hw => TG_TA w (i_G w hw)) t_G t_G_ok n_G C.2.2.2.1 C.K hP (wl_D C.ok h) hS 0 (fs := gF g h) (wl_get (by decide)) rfl i hi (C.w hw) (fun x hx => by rw [hown] at hx; exact hx) hfin (t_G_ok i hi) hn hf hi d (fun H1 locs1 hP1 _ hS1 => ?_)
  refine k _ rfl H1 locs1 la ?_ hS1 hl
  rw [← wl_set (h := h) (k := 0) (by decide) ?_ (fun q _ hq => cel_row (pu_row hq))]
  · exact hP1
  · show Sum.inr (0, gF g (pu h 0 i y)) = _
    rcases (show i = 0 ∨ i = 1 ∨ i = 2 ∨ i = 3 ∨ i = 4 ∨ i = 5 ∨ i = 6 ∨ i = 7 by omega) with rfl | rfl | rfl | rfl | rfl | rfl | rfl | rfl <;> first | rfl | cases hfin
theorem V_putM (C : Cx args M g own cc nL) (i : Nat) {idx : Nat} (hi : i < 13) (hw : Cond.fieldLink own idx "GameGraphModel" (F_M i).2.1 (F_M i).2.2.1 ∈ TA) (hown : (F_M i).1 = "GameGraphModel") (hfin : (F_M i).2.2.2 = false) {y : Int32} (hn : narrow (t_M i) (.int y) = .int y) (hf : fits (t_M i) (.int y) = true) (d : decode cc pc = .ok (.putfield idx, 3)) (k : ∀ h' : Pic, h' = pu h 4 i y → V l R args M g nL Q cells slots h' (pc + 3) lv st) : V l R args M g nL Q cells slots h pc lv (.int y :: .ref (gA g 4) :: st) := by
  intro H locs la hP hS hl
  refine va_put (ci := 2) (C := R_M) (T := F_M) (N := 13) C.1 C.2.1 C.ts (fun w hw => TG_TA w (i_M w hw)) t_M t_M_ok n_M C.2.2.2.1 C.K hP (wl_D C.ok h) hS 4 (fs := mF g h) (wl_get (by decide)) rfl i hi (C.w hw) (fun x hx => by rw [hown] at hx; exact hx) hfin (t_M_ok i hi) hn hf hi d (fun H1 locs1 hP1 _ hS1 => ?_)
  refine k _ rfl H1 locs1 la ?_ hS1 hl
  rw [← wl_set (h := h) (k := 4) (by decide) ?_ (fun q _ hq => cel_row (pu_row hq))]
  · exact hP1
  · show Sum.inr (2, mF g (pu h 4 i y)) = _
    rcases (show i = 0 ∨ i = 1 ∨ i = 2 ∨ i = 3 ∨ i = 4 ∨ i = 5 ∨ i = 6 ∨ i = 7 ∨ i = 8 ∨ i = 9 ∨ i = 10 ∨ i = 11 ∨ i = 12 by omega) with rfl | rfl | rfl | rfl | rfl | rfl | rfl | rfl | rfl | rfl | rfl | rfl | rfl <;> first | rfl | cases hfin
theorem sF_put {n i : Nat} {y : Int32} (hi : i < 11) (h4 : i ≠ 4) : (sF g h n).set i (.int y) = sF g (pu h (17 + n) i y) n := by
  rcases (show i = 0 ∨ i = 1 ∨ i = 2 ∨ i = 3 ∨ i = 5 ∨ i = 6 ∨ i = 7 ∨ i = 8 ∨ i = 9 ∨ i = 10 by omega) with rfl | rfl | rfl | rfl | rfl | rfl | rfl | rfl | rfl | rfl <;> simp [sF, pu]
theorem V_putS (C : Cx args M g own cc nL) (n : Nat) (hn60 : n < 60) (i : Nat) {idx : Nat} (hi : i < 11) (hw : Cond.fieldLink own idx "GameGraph$State" (F_S i).2.1 (F_S i).2.2.1 ∈ TA) (hown : (F_S i).1 = "GameGraph$State") (hfin : (F_S i).2.2.2 = false) {y : Int32} (hn : narrow (t_S i) (.int y) = .int y) (hf : fits (t_S i) (.int y) = true) (d : decode cc pc = .ok (.putfield idx, 3)) (k : ∀ h' : Pic, h' = pu h (17 + n) i y → V l R args M g nL Q cells slots h' (pc + 3) lv st) : V l R args M g nL Q cells slots h pc lv (.int y :: .ref (gA g (17 + n)) :: st) := by
  intro H locs la hP hS hl
  refine va_put (ci := 1) (C := R_S) (T := F_S) (N := 11) C.1 C.2.1 C.ts (fun w hw => TG_TA w (i_S w hw)) t_S t_S_ok n_S C.2.2.2.1 C.K hP (wl_D C.ok h) hS (17 + n) (fs := sF g h n) (by rw [wl_get (by omega), cel_st hn60]) rfl i hi (C.w hw) (fun x hx => by rw [hown] at hx; exact hx) hfin (t_S_ok i hi) hn hf hi d (fun H1 locs1 hP1 _ hS1 => ?_)
  refine k _ rfl H1 locs1 la ?_ hS1 hl
  rw [← wl_set (h := h) (k := 17 + n) (by omega) ?_ (fun q _ hq => cel_row (pu_row hq))]
  · exact hP1
  · rw [cel_st hn60, sF_put hi (fun e => by subst e; cases hfin)]
theorem V_putN (C : Cx args M g own cc nL) (n : Nat) (hn60 : n < 60) (i : Nat) {idx : Nat} (hi : i < 11) (hw : Cond.fieldLinkNest own idx "GameGraph$State" (F_S i).2.1 (F_S i).2.2.1 "GameGraph" ∈ TA) (hown : (F_S i).1 = "GameGraph$State") (hfin : (F_S i).2.2.2 = false) {y : Int32} (hn : narrow (t_S i) (.int y) = .int y) (hf : fits (t_S i) (.int y) = true) (d : decode cc pc = .ok (.putfield idx, 3)) (k : ∀ h' : Pic, h' = pu h (17 + n) i y → V l R args M g nL Q cells slots h' (pc + 3) lv st) : V l R args M g nL Q cells slots h pc lv (.int y :: .ref (gA g (17 + n)) :: st) := by
  intro H locs la hP hS hl
  refine va_putN (ci := 1) (C := R_S) (T := F_S) (N := 11) C.1 C.2.1 C.ts (fun w hw => TG_TA w (i_S w hw)) t_S t_S_ok n_S C.2.2.2.1 C.K hP (wl_D C.ok h) hS (17 + n) (fs := sF g h n) (by rw [wl_get (by omega), cel_st hn60]) rfl i hi (C.w hw) (fun x hx => by rw [hown] at hx; exact hx) hfin (t_S_ok i hi) hn hf hi d (fun H1 locs1 hP1 _ hS1 => ?_)
  refine k _ rfl H1 locs1 la ?_ hS1 hl
  rw [← wl_set (h := h) (k := 17 + n) (by omega) ?_ (fun q _ hq => cel_row (pu_row hq))]
  · exact hP1
  · rw [cel_st hn60, sF_put hi (fun e => by subst e; cases hfin)]
end VR
end
section
-- ===== contracts of methods that return or throw; calls; ends =====
def EndX (st t : State) (L : List Loc) (k n : Nat) : Prop := st.WarmedH t.vm ∧ st.sameButNew ({ t with vm := st.vm } : State) L k n
def MQX (below : List Frame) (Qc : Array Value → State → Outcome → State → Prop) (a : Array Value) (s : State) (mc ms : Nat) (free : Addr → Prop) : State → Prop := fun t =>
  ∃ o, t.status = .running ∧ Ended t below o ∧ Qc a s o t ∧ ∃ L, EndX s t L mc ms ∧ ∀ q ∈ L, free q.base
def QX (g : Gh) (Post : Option Value → Pic → Prop) (PostX : String → Pic → Prop) : Array Value → State → Outcome → State → Prop := fun _ _ o t =>
  (∃ (r : Option Value) (h' : Pic), o = .returned r ∧ Post r h' ∧ Wd g h' t.heap) ∨
  (∃ (x : Addr) (X : String) (h' : Pic) (cell : Cell), o = .threw x ∧ PostX X h' ∧ Wd g h' t.heap ∧ t.heap[x]? = some cell ∧ cell.vm.isStatics = false ∧ t.vm.findClass X = some cell.cls)
def PcX (g : Gh) (As : List Value) (h : Pic) : Array Value → State → Prop := fun a U => a = As.toArray ∧ Wd g h U.heap ∧ Kv g U.vm
/-- THE CONTRACT: from any heap that holds the picture h, y on As returns with 'Post answer h'' or throws an X with 'PostX X h'', the heap then holding h' -/
def Ct (l : Launch) (g : Gh) (y : MethodName) (cw : Cond) (rm : Room) (As : List Value) (h : Pic) (Post : Option Value → Pic → Prop) (PostX : String → Pic → Prop) : Prop :=
  MetFree l y (headSpec [cw] rm) (PcX g As h) (fun _ _ _ _ _ => True) (fun a st o t => QX g Post PostX a st o t ∧ ∃ L, EndX st t L rm.cells rm.slots ∧ ∀ q ∈ L, gW g q.base)
def CodeIs (s : State) (y : MethodName) (maxL : Nat) (mk : MethodId) (meth : Method) (c : Code) : Prop := s.methodNamed? y = some mk ∧ s.vm.method? mk = some meth ∧ meth.code = some c ∧ c.maxLocals = maxL ∧ parseMethodDescriptor y.desc = some meth.sig
theorem codeIs {y : MethodName} {bytes : ByteArray} {maxL : Nat} {ret : Option FieldType} {a : Array Value} {s : State} (h : (Cond.code y bytes maxL ret).before a s = true) : ∃ mk meth c, CodeIs s y maxL mk meth c := by
  obtain ⟨mk, hn⟩ := Cond.code_named h
  obtain ⟨meth, c, h1, h2, -, h4, -, -, -, h8⟩ := Cond.code_spec hn h
  exact ⟨mk, meth, c, hn, h1, h2, h4, h8⟩
theorem codeIsW {y : MethodName} {bytes : ByteArray} {maxL : Nat} {ret : Option FieldType} {hs : List (Nat × Nat × Nat × Nat)} {a : Array Value} {s : State} (h : (Cond.codeWith y bytes maxL ret hs).before a s = true) : ∃ mk meth c, CodeIs s y maxL mk meth c := by
  obtain ⟨mk, meth, c, hn, h1, h2, -, h4, -, -, -, h8⟩ := Cond.codeWith_spec h
  exact ⟨mk, meth, c, hn, h1, h2, h4, h8⟩
section BX
variable {p : Program} {l : Launch} {e : Env} {R : Room} {s : State} {m : MethodId} {args : Array Value} {below : List Frame} {meth : Method} {c : Code} {T : State} {locs : List Loc} {cells slots : Nat}
theorem backX (X : Stand p l e R s m args below meth c T locs cells slots) {f : JFrame} (hf : f.method = m) (hsize : f.locals.size = c.maxLocals) {ig : Instr} {len : Nat} (hdg : decode c.code f.pc = .ok (ig, len))
    (hW : 2 * f.monitorRoom + (f.stack.map fun v => v.category).sum ≤ 8) {y : MethodName} {mk : MethodId} {methY : Method} {cY : Code} {maxL : Nat} (hY : CodeIs T y maxL mk methY cY)
    {S : Spec} {P : Array Value → State → Prop} {Q : Array Value → State → Outcome → State → Prop} {a : Array Value} (hM : MetFree l y S P (fun _ _ _ _ _ => True) Q)
    (hinit : (Cond.initialized y.cls).before a T = true) (hpre : S.pre.before a T = true)
    (hframes : S.room.frames + 1 ≤ R.frames) (hlocals : 8 + (maxL + 11) + S.room.locals ≤ R.locals) (hcells : cells + S.room.cells ≤ R.cells) (hslots : slots + S.room.slots ≤ R.slots)
    (hP : P a (T.calling f mk a)) {k n : Nat} {free : Addr → Prop} (hQ : ∀ first o t, Q a first o t → ∃ L, EndX first t L k n ∧ ∀ q ∈ L, free q.base) :
    ∃ (o : Outcome) (t T' : State) (L : List Loc), Stand p l e R s m args below meth c T' (locs ++ L) (cells + k) (slots + n) ∧ T'.heap = t.heap ∧ T'.vm = t.vm ∧ (∀ q ∈ L, free q.base) ∧ Q a (T.calling f mk a) o t ∧
      (∀ v, o = .returned v → Steps p.tables e below (doInvoke e (T.setTop f) [] mk a).1 (T'.setTop { f with pc := f.pc + len, stack := v.toList ++ f.stack })) ∧
      (∀ x, o = .threw x → Steps p.tables e below (doInvoke e (T.setTop f) [] mk a).1 ((T'.setTop f).pushFrame (.throwing x))) := by
  obtain ⟨hn, hmY, hcY, hlY, -⟩ := hY
  obtain ⟨kY, hkY, -⟩ := className_of_methodNamed hn
  have hinitY : kY.init = .initialized := Cond.initialized_spec (findClass_of_methodNamed hn) hkY hinit
  have h : At T f.method c below := by rw [hf]; exact X.here
  have happ : S.appliesLoose y e.platform (T.calling f mk a) = true :=
    Spec.appliesLoose_calling (g := f) h hdg hn hkY hinitY (X.room_calling (g := f) (R' := S.room) hsize hmY hcY hframes (by rw [hlY]; omega) hcells hslots) hpre
  obtain ⟨mid, hmid⟩ := h.above
  have hfr : (T.setTop f).frames = (.java f :: mid) ++ below := by rw [State.frames_setTop' f h.top, hmid]; rfl
  obtain ⟨o, t, hsteps, -, hend, hq⟩ := Steps.callFree hM p X.admits X.cas X.clock (acts := []) hfr happ hP trivial
  have hq' : Q a (T.calling f mk a) o t := hq
  rw [State.frames_setTop' f h.top, X.tail] at hend
  obtain ⟨L, ⟨hWt, hsame⟩, hL⟩ := hQ _ _ _ hq'
  cases o with
  | returned v =>
    obtain ⟨T', X', -, -, ht⟩ := X.outOf hf hdg hend hWt hsame
    refine ⟨_, t, T', L, X', by rw [ht]; rfl, by rw [ht]; rfl, hL, hq', fun w hw => ?_, fun x hx => by cases hx⟩
    cases hw
    rw [← ht]
    exact hsteps
  | threw x =>
    obtain ⟨T', X', -, -, ht⟩ := X.outOfThrown hf hend hWt hsame
    refine ⟨_, t, T', L, X', by rw [ht]; rfl, by rw [ht]; rfl, hL, hq', fun w hw => (by cases hw), fun z hz => ?_⟩
    cases hz
    rw [← ht]
    exact hsteps
end BX
/-- a walk that has come to a throw: x, an object of the class X, over the frame at pc -/
def VX (l : Launch) (R : Room) (args : Array Value) (M : MT) (g : Gh) (nL : Nat) (Q : State → Prop) (cells slots : Nat) (h : Pic) (X : String) (pc : Nat) (lv : List (Nat × Value)) (st : List Value) : Prop :=
  ∀ (H : Heap) (locs : List Loc) (la : Array Slot) (x : Addr) (cell : Cell), va_P g.1 classes (wl g h) H → va_S (gW g) (gH g) H locs → lv_has la nL lv → H[x]? = some cell → cell.vm.isStatics = false → (mS M).vm.findClass X = some cell.cls →
    ∀ T : State, T.heap = H → Stand (mP M) l (mE M) R (mS M) (mM M) args (mB M) (mT M) (mC M) T locs cells slots → ∃ t, Steps (mP M).tables (mE M) (mB M) ((T.setTop (F0 (mM M) pc la st)).pushFrame (.throwing x)) t ∧ Q t
theorem Wd.locs {g : Gh} {h : Pic} {H : Heap} (hW : Wd g h H) {locs : List Loc} (hl : ∀ q ∈ locs, gW g q.base) : va_S (gW g) (gH g) H locs := ⟨hW.2.1, hW.2.2.1, hl⟩
theorem va_S.nil {g : Gh} {H : Heap} {locs : List Loc} (hS : va_S (gW g) (gH g) H locs) : va_S (gW g) (gH g) H [] := ⟨hS.1, hS.2.1, fun _ h => by cases h⟩
section VC
variable {l : Launch} {R : Room} {args : Array Value} {M : MT} {g : Gh} {own : String} {cc : ByteArray} {nL : Nat} {Q : State → Prop} {cells slots : Nat} {h : Pic} {pc : Nat} {lv lv' : List (Nat × Value)} {st : List Value} {Post : Option Value → Pic → Prop} {PostX : String → Pic → Prop} {rm : Room} {y : MethodName} {cw : Cond} {maxL : Nat}
theorem Cx.pl (C : Cx args M g own cc nL) {H : Heap} {locs : List Loc} {T : State} (X : Stand (mP M) l (mE M) R (mS M) (mM M) args (mB M) (mT M) (mC M) T locs cells slots) : (mE M).platform.magicAccessors = ({} : Platform).magicAccessors := by rw [X.admits.platform]
/-- what a call needs beside its link -/
theorem callX (C : Cx args M g own cc nL) {As : List Value} (hM : Ct l g y cw rm As h Post PostX) (hcw : cw ∈ TA) (hci : ∀ (a : Array Value) (s : State), cw.before a s = true → ∃ mk meth c, CodeIs s y maxL mk meth c) (hini : Cond.initialized y.cls ∈ TA)
    (hR : rm.frames + 1 ≤ R.frames ∧ 8 + (maxL + 11) + rm.locals ≤ R.locals) (hRc : cells + rm.cells ≤ R.cells ∧ slots + rm.slots ≤ R.slots)
    {la : Array Slot} (hla : la.size = nL) (hst : (st.map fun v => v.category).sum ≤ 8) {ig : Instr} (hdg : decode cc pc = .ok (ig, 3))
    (kr : ∀ (r : Option Value) (h' : Pic), Post r h' → V l R args M g nL Q (cells + rm.cells) (slots + rm.slots) h' (pc + 3) lv (r.toList ++ st))
    (kx : ∀ (X : String) (h' : Pic), PostX X h' → VX l R args M g nL Q (cells + rm.cells) (slots + rm.slots) h' X pc lv st)
    {H : Heap} {locs : List Loc} (hP : va_P g.1 classes (wl g h) H) (hS : va_S (gW g) (gH g) H locs) (hl : lv_has la nL lv)
    {T : State} (hT : T.heap = H) (X : Stand (mP M) l (mE M) R (mS M) (mM M) args (mB M) (mT M) (mC M) T locs cells slots) {mk : MethodId} (hmk : (mS M).methodNamed? y = some mk) :
    ∃ t, Steps (mP M).tables (mE M) (mB M) (doInvoke (mE M) (T.setTop (F0 (mM M) pc la st)) [] mk As.toArray).1 t ∧ Q t := by
  have hK : Kv g T.vm := Kv.warm X.warmed C.2.2.2.2.1
  have hcwT : cw.before As.toArray T = true := hK.1 cw hcw As.toArray T rfl
  obtain ⟨mk', methY, cY, hY⟩ := hci _ _ hcwT
  have e0 : mk' = mk := Option.some.inj (hY.1.symm.trans (X.named hmk))
  subst e0
  obtain ⟨o, t, T', L, X', e1, e2, hL, ⟨hq, -⟩, hr, hx⟩ := backX (f := F0 (mM M) pc la st) (free := gW g) X rfl (hla.trans C.2.2.1.symm) (by rw [C.2.1]; exact hdg) (by simpa [JFrame.monitorRoom] using hst) hY hM
    (hK.1 _ hini As.toArray T rfl) (atoms_intro (ws := [cw]) (fun w hw => by rw [List.mem_singleton.mp hw]; exact hcwT)) hR.1 hR.2 hRc.1 hRc.2
    ⟨rfl, ⟨by show va_P _ _ _ T.heap; rw [hT]; exact hP, by show va_S _ _ T.heap _; rw [hT]; exact hS.nil⟩, hK⟩ (fun _ _ _ hq => hq.2)
  have hlocs : ∀ q ∈ locs ++ L, gW g q.base := fun q hq => by
    rcases List.mem_append.mp hq with h1 | h1
    · exact hS.2.2 q h1
    · exact hL q h1
  rcases hq with ⟨r, h', ho, hp, hw⟩ | ⟨x, Xn, h', cell, ho, hp, hw, hcell, hst1, hcl⟩
  · rw [← e1] at hw
    obtain ⟨t2, a1, b1⟩ := kr r h' hp T'.heap (locs ++ L) la hw.1 (hw.locs hlocs) hl T' rfl X'
    exact ⟨t2, (hr r ho).trans a1, b1⟩
  · rw [← e1] at hw hcell
    rw [← e2] at hcl
    obtain ⟨t2, a1, b1⟩ := kx Xn h' hp T'.heap (locs ++ L) la x cell hw.1 (hw.locs hlocs) hl hcell hst1 (by rw [← X'.warmed.alike.findClass]; exact hcl) T' rfl X'
    exact ⟨t2, (hx x ho).trans a1, b1⟩
end VC
end
section
-- ===== call rows, ends, the contract out of a walk =====
section VC
variable {l : Launch} {R : Room} {args : Array Value} {M : MT} {g : Gh} {own : String} {cc : ByteArray} {nL : Nat} {Q : State → Prop} {cells slots : Nat} {h : Pic} {pc : Nat} {lv lv' : List (Nat × Value)} {st : List Value} {Post : Option Value → Pic → Prop} {PostX : String → Pic → Prop} {rm : Room} {y : MethodName} {cw : Cond} {maxL : Nat}
/-- the receiver b is an object of the class Cls -/
def Recv (g : Gh) (h : Pic) (b : Nat) (Cls : String) : Prop := ∃ (k ci : Nat) (fs : List Value) (q : vw_C), k < 137 ∧ b = gA g k ∧ cel g h k = .inr (ci, fs) ∧ classes[ci]? = some q ∧ q.1 = Cls
theorem recvG : Recv g h (gA g 0) "GameGraph" := ⟨0, 0, _, _, by decide, rfl, rfl, rfl, rfl⟩
theorem recvM : Recv g h (gA g 4) "GameGraphModel" := ⟨4, 2, _, _, by decide, rfl, rfl, rfl, rfl⟩
theorem recvS {n : Nat} (hn : n < 60) : Recv g h (gA g (17 + n)) "GameGraph$State" := ⟨17 + n, 1, _, _, by omega, rfl, cel_st hn, rfl, rfl⟩
theorem V_callV (C : Cx args M g own cc nL) {b : Nat} {As : List Value} (Cls : String) {idx : Nat} (hM : Ct l g y cw rm (.ref b :: As) h Post PostX) (hcw : cw ∈ TA) (hci : ∀ (a : Array Value) (s : State), cw.before a s = true → ∃ mk meth c, CodeIs s y maxL mk meth c)
    (hini : Cond.initialized y.cls ∈ TA) (hlk : Cond.methodLink own idx y ∈ TA) (hin : Cond.instanceMethod y ∈ TA) (hse : Cond.selects Cls y y ∈ TA) (hy : y.cls ≠ "java/lang/invoke/MethodHandle" ∧ y.cls ≠ "java/lang/invoke/VarHandle")
    (hlen : (parseMethodDescriptor y.desc).map (fun d => d.parameters.length) = some As.length) (hrc : Recv g h b Cls)
    (hR : rm.frames + 1 ≤ R.frames ∧ 8 + (maxL + 11) + rm.locals ≤ R.locals) (hRc : cells + rm.cells ≤ R.cells ∧ slots + rm.slots ≤ R.slots) (hst : (st.map fun v => v.category).sum ≤ 8) (d : decode cc pc = .ok (.invokevirtual idx, 3))
    (kr : ∀ (r : Option Value) (h' : Pic), Post r h' → V l R args M g nL Q (cells + rm.cells) (slots + rm.slots) h' (pc + 3) lv (r.toList ++ st))
    (kx : ∀ (X : String) (h' : Pic), PostX X h' → VX l R args M g nL Q (cells + rm.cells) (slots + rm.slots) h' X pc lv st) :
    V l R args M g nL Q cells slots h pc lv (As.reverse ++ .ref b :: st) := by
  intro H locs la hP hS hl T hT X
  obtain ⟨k, ci, fs, q, hk, rfl, hcel, hcl, rfl⟩ := hrc
  obtain ⟨cellB, hcB, hoB, hclB⟩ := va_recv C.K hP hcl (q0 := k) (by rw [wl_get hk, hcel])
  obtain ⟨mk, methM, hnamed, hmethM, hstM, habM⟩ := Cond.instanceMethod_spec (C.w hin)
  obtain ⟨mk', methM', cM, hn', hm', -, -, hsig⟩ := hci _ _ (C.w hcw)
  cases hnamed.symm.trans hn'
  cases hmethM.symm.trans hm'
  obtain ⟨c2, r2, m2, q1, q2, q3, q4, kP, hkP, hkPi⟩ := Cond.selects_spec (C.w hse)
  cases hclB.symm.trans q1
  cases (State.methodFound?_of_named hnamed hy).symm.trans q2
  cases hnamed.symm.trans q3
  have hselP : selectMethod (mE M).platform (mS M).vm cellB.cls mk = .method mk := by rw [Launch.admits_selectMethod X.admits]; exact q4
  have hln : As.length = methM.sig.parameters.length := by
    rw [hsig] at hlen
    exact (Option.some.inj hlen).symm
  obtain ⟨vm₁, X₁, hstep₁⟩ := X.invokevirtual C.1 C.2.2.2.1 (C.w hlk) hnamed hmethM hstM hkP hkPi hy (a := gA g k) (cell := cellB) (by rw [hT]; exact hcB)
    (fun z h => by rw [h] at hoB; cases hoB) hselP hmethM habM hkP hkPi (g := F0 (mM M) pc la (As.reverse ++ .ref (gA g k) :: st)) rfl (argsL := As) (rest := st) hln rfl (by rw [C.2.1]; exact d)
  obtain ⟨t, a1, b1⟩ := callX C hM hcw hci hini hR hRc hl.1 hst d kr kx hP hS hl (T := T.setVm vm₁) hT X₁ hnamed
  exact ⟨t, hstep₁ _ fun acts => by rw [doInvoke_state]; exact a1, b1⟩
theorem V_callS (C : Cx args M g own cc nL) {As : List Value} {idx : Nat} (hM : Ct l g y cw rm As h Post PostX) (hcw : cw ∈ TA) (hci : ∀ (a : Array Value) (s : State), cw.before a s = true → ∃ mk meth c, CodeIs s y maxL mk meth c)
    (hini : Cond.initialized y.cls ∈ TA) (hlk : Cond.methodLink own idx y ∈ TA) (hsta : Cond.static y ∈ TA) (hy : y.cls ≠ "java/lang/invoke/MethodHandle" ∧ y.cls ≠ "java/lang/invoke/VarHandle")
    (hlen : (parseMethodDescriptor y.desc).map (fun d => d.parameters.length) = some As.length)
    (hR : rm.frames + 1 ≤ R.frames ∧ 8 + (maxL + 11) + rm.locals ≤ R.locals) (hRc : cells + rm.cells ≤ R.cells ∧ slots + rm.slots ≤ R.slots) (hst : (st.map fun v => v.category).sum ≤ 8) (d : decode cc pc = .ok (.invokestatic idx, 3))
    (kr : ∀ (r : Option Value) (h' : Pic), Post r h' → V l R args M g nL Q (cells + rm.cells) (slots + rm.slots) h' (pc + 3) lv (r.toList ++ st))
    (kx : ∀ (X : String) (h' : Pic), PostX X h' → VX l R args M g nL Q (cells + rm.cells) (slots + rm.slots) h' X pc lv st) :
    V l R args M g nL Q cells slots h pc lv (As.reverse ++ st) := by
  intro H locs la hP hS hl T hT X
  obtain ⟨mk, methM, cM, hnamed, hmethM, -, -, hsig⟩ := hci _ _ (C.w hcw)
  have hstatic : methM.isStatic = true := Cond.static_spec hnamed hmethM (C.w hsta)
  obtain ⟨kP, hkP, -⟩ := className_of_methodNamed hnamed
  have hinitP : kP.init = .initialized := Cond.initialized_spec (findClass_of_methodNamed hnamed) hkP (C.w hini)
  have hln : As.length = methM.sig.parameters.length := by
    rw [hsig] at hlen
    exact (Option.some.inj hlen).symm
  obtain ⟨vm₁, X₁, hstep₁⟩ := X.invokestatic C.1 C.2.2.2.1 (C.w hlk) hnamed hmethM hstatic hkP hinitP hy (g := F0 (mM M) pc la (As.reverse ++ st)) rfl (argsL := As) (rest := st) hln rfl (by rw [C.2.1]; exact d)
  obtain ⟨t, a1, b1⟩ := callX C hM hcw hci hini hR hRc hl.1 hst d kr kx hP hS hl (T := T.setVm vm₁) hT X₁ hnamed
  exact ⟨t, hstep₁ _ fun acts => by rw [doInvoke_state]; exact a1, b1⟩
theorem W_mono {p : Program} {l : Launch} {e : Env} {R : Room} {s : State} {m : MethodId} {args : Array Value} {below : List Frame} {meth : Method} {c : Code} {H : Heap} {locs : List Loc} {cells slots : Nat} {Q Q' : State → Prop} {f : JFrame} (hQ : ∀ t, Q t → Q' t) (k : W p l e R s m args below meth c H locs cells slots Q f) : W p l e R s m args below meth c H locs cells slots Q' f := by
  intro T hT X
  obtain ⟨t, a, b⟩ := k T hT X
  exact ⟨t, a, hQ t b⟩
theorem MQ_X {below : List Frame} {Qc : Array Value → State → Outcome → State → Prop} {a : Array Value} {s : State} {mc ms : Nat} {free : Addr → Prop} (t : State) (hq : MQ below Qc a s mc ms free t) : MQX below Qc a s mc ms free t := by
  obtain ⟨o, h1, h2, h3, L, ⟨-, h5⟩, h6⟩ := hq
  exact ⟨o, h1, h2, h3, L, h5, h6⟩
theorem V_iret (C : Cx args M g own cc nL) {v : Int32} {ty : FieldType} (hr : (mT M).sig.returnType = some ty) (hn : narrow ty (.int v) = .int v) (d : decode cc pc = .ok (.ireturn, 1)) (hp : Post (some (.int v)) h) : V l R args M g nL (MQX (mB M) (QX g Post PostX) args (mS M) cells slots (gW g)) cells slots h pc lv [.int v] :=
  fun H locs la hP hS hl => W_mono MQ_X (W.zret C.1 C.2.1 hr hn (fun t ht _ => Or.inl ⟨_, h, rfl, hp, by rw [ht]; exact ⟨hP, hS.nil⟩⟩) hS.2.2 d C.2.2.2.2.2.2.1)
theorem V_vret (C : Cx args M g own cc nL) (hr : (mT M).sig.returnType = none) (d : decode cc pc = .ok (.return_, 1)) (hp : Post none h) : V l R args M g nL (MQX (mB M) (QX g Post PostX) args (mS M) cells slots (gW g)) cells slots h pc lv [] :=
  fun H locs la hP hS hl => W_mono MQ_X (W.vret C.1 C.2.1 hr (fun t ht _ => Or.inl ⟨_, h, rfl, hp, by rw [ht]; exact ⟨hP, hS.nil⟩⟩) hS.2.2 d C.2.2.2.2.2.2.1)
theorem V_aret (C : Cx args M g own cc nL) {b : Nat} {n : String} (hr : (mT M).sig.returnType = some (.object n)) (d : decode cc pc = .ok (.areturn, 1)) (hp : Post (some (.ref b)) h) : V l R args M g nL (MQX (mB M) (QX g Post PostX) args (mS M) cells slots (gW g)) cells slots h pc lv [.ref b] :=
  fun H locs la hP hS hl => W_mono MQ_X (W.aret C.1 C.2.1 hr (Or.inl ⟨_, rfl⟩) (Or.inr ⟨_, rfl⟩) (fun t ht _ => Or.inl ⟨_, h, rfl, hp, by rw [ht]; exact ⟨hP, hS.nil⟩⟩) hS.2.2 d C.2.2.2.2.2.2.1)
/-- a throw that nobody here takes -/
theorem VX_leave (C : Cx args M g own cc nL) {X : String} (hx : (mC M).exceptionTable.toList = []) (hp : PostX X h) : VX l R args M g nL (MQX (mB M) (QX g Post PostX) args (mS M) cells slots (gW g)) cells slots h X pc lv st := by
  intro H locs la x cell hP hS hl hcell hst hcl T hT XX
  obtain ⟨h1, h2, h3, h4, h5⟩ := XX.leaveThrown x (g := F0 (mM M) pc la st) rfl rfl rfl (fun z hz => by rw [hx] at hz; cases hz) C.2.2.2.2.2.2.1
  refine ⟨_, h1, .threw x, h2, h3, Or.inr ⟨x, X, h, cell, rfl, hp, ⟨?_, ?_⟩, ?_, hst, ?_⟩, locs, ⟨h4, h5⟩, hS.2.2⟩
  · show va_P _ _ _ T.heap
    rw [hT]; exact hP
  · show va_S _ _ T.heap _
    rw [hT]; exact hS.nil
  · show T.heap[x]? = some cell
    rw [hT]; exact hcell
  · rw [h4.alike.findClass]; exact hcl
end VC
theorem kv_tr {g : Gh} (hgok : gOk g) {h : Pic} {H : Heap} (hW : va_P g.1 classes (wl g h) H) : ∀ k, k < 137 → ∀ cell : Cell, H[gA g k]? = some cell → cell.vm.isStatics = false := by
  intro k hk cell hc
  have h1 := hW k _ (wl_get hk)
  unfold va_at at h1
  cases he : cel g h k with
  | inl a =>
    rw [he] at h1
    dsimp only at h1
    cases h1.symm.trans hc
    obtain ⟨cA, n, f | f | f | f | f⟩ := a <;> rfl
  | inr o =>
    rw [he] at h1
    dsimp only at h1
    obtain ⟨r, -, cell', e1, -, e3, -⟩ := h1
    cases e1.symm.trans hc
    rw [e3]; rfl
theorem Ct_of {l : Launch} {g : Gh} {y : MethodName} {cc : ByteArray} {nL : Nat} {ret : Option FieldType} {rm : Room} {As : List Value} {h : Pic} {Post : Option Value → Pic → Prop} {PostX : String → Pic → Prop} (hgok : gOk g) (htr : l.stackTraces = false) (hy : plainName y.cls = true) (hn : (lg_sl As).length ≤ nL)
    (body : ∀ M : MT, Cx As.toArray M g y.cls cc nL → (mT M).sig.returnType = ret → (mC M).exceptionTable.toList = [] → V l rm As.toArray M g nL (MQX (mB M) (QX g Post PostX) As.toArray (mS M) rm.cells rm.slots (gW g)) 0 0 h 0 (lv_args 0 As) []) : Ct l g y (.code y cc nL ret) rm As h Post PostX := by
  refine MetFree.of_bodyS (code := cc) (maxLocals := nL) (ret := ret) hy ?_ ?_
  · intro args s m hh hnm
    obtain ⟨meth, c, h1, h2, h3, h4, h5, h6, -, -⟩ := Cond.code_spec hnm (atoms_spec (ws := [.code y cc nL ret]) hh _ List.mem_cons_self)
    exact ⟨meth, c, h1, h2, h3, h4, h5, h6⟩
  · intro p e s m args below meth c s₁ B hml hP _
    obtain ⟨rfl, hW, hK⟩ := hP
    have hh0 : s₁.heap = s.heap := by rw [B.state]; rfl
    have hcode : (Cond.code y cc nL ret).before As.toArray s = true := atoms_spec (ws := [.code y cc nL ret]) B.pre _ List.mem_cons_self
    have htbl : c.exceptionTable.toList = [] := by
      have := B.noHandlers hcode
      simpa using this
    have C : Cx As.toArray (p, e, s, m, below, meth, c) g y.cls cc nL := ⟨B.exec, B.bytes, hml, findClass_of_methodNamed B.named, hK, hgok, B.notSynchronized, kv_tr hgok hW.1, by rw [show e.platform.stackTraces = l.stackTraces by rw [B.admits.platform]]; exact htr, fun q hq => hW.2.2.1 q hq (fun ⟨k, hk, e⟩ => by have := hgok.2 k hk; omega)⟩
    have key := body (p, e, s, m, below, meth, c) C B.returns htbl s.heap [] _ hW.1 hW.2 (lv_entry As hn)
    rw [← lg_entry_eq] at key
    obtain ⟨t, a1, o, b1, b2, b3⟩ := key s₁ hh0 (Stand.of_body B)
    exact ⟨t, o, a1, b1, b2, ⟨b3.1, b3.2⟩⟩
end
section
-- ===== throws and catches =====
section RB
variable {p : Program} {l : Launch} {e : Env} {R : Room} {s : State} {m : MethodId} {args : Array Value} {below : List Frame} {meth : Method} {c : Code} {T : State} {locs : List Loc} {cells slots : Nat}
/-- a walk begun anew where it stands: as if the method had been entered with this heap -/
theorem rebase (X : Stand p l e R s m args below meth c T locs cells slots) {R' : Room} (hf : R'.frames ≤ R.frames) (hlo : R'.locals ≤ R.locals) (hc : cells + R'.cells ≤ R.cells) (hs : slots + R'.slots ≤ R.slots) :
    Stand p l e R' (T.setFrames (.invoking m args :: below)) m args below meth c T [] 0 0 := by
  obtain ⟨g₀, hfr⟩ := X.frames_eq
  have hcur : T.cur < T.threads.size := State.cur_lt_of_frames hfr
  have hF : (T.setFrames (.invoking m args :: below)).frames = .invoking m args :: below := State.frames_setFrames _ hcur
  have hm' : (T.setFrames (.invoking m args :: below)).vm.method? m = some meth := X.method'
  obtain ⟨th, hth, -⟩ := State.frames_cons hfr
  refine ⟨X.admits, X.cas, X.clock, hF, ?_, ?_, hm', X.code, X.here, X.tail, State.WarmedH.refl _, ?_, ?_, ?_⟩
  · have hr := X.room
    have h1 := X.heapSize
    have h2 := X.used
    have h3 := X.book
    have h4 := X.limits
    have h5 := X.bytes
    simp only [State.hasRoom, Bool.and_eq_true, decide_eq_true_eq] at hr ⊢
    rw [State.localsInUse_invoking X.frames X.method X.code, X.frames] at hr
    rw [State.localsInUse_invoking hF hm' X.code, hF, State.stackLimits_setFrames, State.stackBytes_setFrames, h4, h5]
    refine ⟨⟨⟨⟨by have := hr.1.1.1.1; omega, ?_⟩, ?_⟩, ?_⟩, ?_⟩
    · obtain ⟨a1, a2, a3, a4, a5⟩ := hr.1.1.1.2
      simp only [List.length_cons] at a1 a2 ⊢
      exact ⟨by omega, by omega, by omega, by omega, a5⟩
    · have := hr.1.1.2
      show T.heap.size + _ ≤ _
      omega
    · have := hr.1.2
      show T.slotsUsed + _ ≤ _
      omega
    · exact h3
  · have hh := X.hears
    have hal := X.warmed.alike
    unfold State.hears at hh ⊢
    split at hh
    · rename_i g r
      have e1 : (T.setFrames (.invoking m args :: .java g :: r)).code? g.method = s.code? g.method := by
        rw [State.code?_eq, State.code?_eq]
        show (T.vm.method? g.method).bind _ = _
        rw [hal.method?]
      rw [e1]
      exact hh
    · exact hh
    · exact hh
    · show (T.vm.method? m).any _ = true
      rw [hal.method?]
      exact hh
  · rw [State.stackLimits_setFrames]
  · rw [State.stackBytes_setFrames]
  · have h1 := State.sameButNew.refl (T.setFrames (.invoking m args :: below)) (x := { th with frames := .invoking m args :: below }) (by
      simp [State.setFrames, Array.getElem?_modify, hth])
    have h2 := h1.setFrames T.frames (State.cur_lt_of_frames hF)
    rw [State.setFrames_setFrames, State.setFrames_self hth] at h2
    exact h2
end RB
end
section
-- ===== 'throw new X()' as a row; catches as a row; contracts of methods with handlers =====
theorem same_all {s t : State} {k n : Nat} (h : s.sameButNew t [] k n) {q : Nat} (hq : q < s.heap.size) : t.heap[q]? = s.heap[q]? := by
  obtain ⟨-, -, -, -, -, h6⟩ := h
  obtain ⟨c', e1, e2, e3, e4⟩ := h6 q s.heap[q] (Array.getElem?_eq_some_iff.mpr ⟨hq, rfl⟩)
  have e5 : c'.slots = s.heap[q].slots := Array.ext_getElem? (fun i => e4 i (fun h => by cases h))
  rw [e1, Array.getElem?_eq_some_iff.mpr ⟨hq, rfl⟩, e2, e5]
section VT
variable {l : Launch} {R : Room} {args : Array Value} {M : MT} {g : Gh} {own : String} {cc : ByteArray} {nL : Nat} {Q : State → Prop} {cells slots : Nat} {h : Pic} {pc : Nat} {lv lv' : List (Nat × Value)} {st : List Value} {Post : Option Value → Pic → Prop} {PostX : String → Pic → Prop}
theorem V_throw (C : Cx args M g own cc nL) (hx : (mC M).exceptionTable.toList = []) {X : String} {names : List String} {ic id : Nat} (hcls : Bundle.fit X = true) (hnames : ∀ n ∈ names, Bundle.fit n = true) (hw : ∀ a ∈ Bundle.ownAtoms0 own ic X names, a ∈ TA ∨ a ∈ SW)
    (hcl : Cond.classLink own id X ∈ TA) (hin : Cond.instantiable X 6 ∈ TA) (hini : Cond.initialized X ∈ TA) (d0 : decode cc pc = .ok (.new id, 3)) (d3 : decode cc (pc + 3) = .ok (.dup, 1)) (d4 : decode cc (pc + 4) = .ok (.invokespecial ic, 3)) (d7 : decode cc (pc + 7) = .ok (.athrow, 1))
    (hR : names.length + 3 < R.frames ∧ (st.map fun v => v.category).sum + 1 + (13 * (names.length + 1) + 41) ≤ R.locals) (hc1 : cells + 1 ≤ R.cells) (hs1 : slots + 6 ≤ R.slots) (hp : PostX X h) :
    V l R args M g nL (MQX (mB M) (QX g Post PostX) args (mS M) (cells + 1) (slots + 6) (gW g)) cells slots h pc lv st := by
  intro H locs la hP hS hl T hT XX
  have hK : Kv g T.vm := Kv.warm XX.warmed C.2.2.2.2.1
  have hX := rebase XX (R' := { frames := R.frames, cells := 1, slots := 6, locals := R.locals }) (Nat.le_refl _) (Nat.le_refl _) hc1 hs1
  have hag : ∀ q : Nat, q < (gH g).size → T.heap[q]? = (gH g)[q]? := fun q hq => by
    rw [hT]
    exact hS.2.1 q hq (fun ⟨k, hk, e⟩ => by have := C.ok.2 k hk; omega)
  have hTW : ∀ w ∈ TA, w.before args (T.setFrames (.invoking (mM M) args :: (mB M))) = true := fun w h1 => hK.1 w h1 args _ rfl
  have hSW : ∀ w ∈ SW, w.before args (T.setFrames (.invoking (mM M) args :: (mB M))) = true := fun w h1 => hK.2.1 w h1 args _ rfl hag
  have hfT : (T.setFrames (.invoking (mM M) args :: (mB M))).vm.findClass own = some (mM M).cls := by
    show T.vm.findClass own = _
    rw [XX.warmed.alike.findClass]; exact C.2.2.2.1
  have hvS : (T.setFrames (.invoking (mM M) args :: (mB M))).vm = T.vm := rfl
  have hhS : (T.setFrames (.invoking (mM M) args :: (mB M))).heap = T.heap := rfl
  obtain ⟨s', hs'⟩ : ∃ s', s' = T.setFrames (.invoking (mM M) args :: (mB M)) := ⟨_, rfl⟩
  rw [← hs'] at hX hTW hSW hfT hvS hhS
  have w1 : (Cond.classLink own id X).before args s' = true := hTW _ hcl
  have w2 : (Cond.instantiable X 6).before args s' = true := hTW _ hin
  have w3 : (Cond.initialized X).before args s' = true := hTW _ hini
  obtain ⟨cC, kC, hfc, hkC, -⟩ := Cond.instantiable_spec w2
  obtain ⟨R', hR'⟩ : ∃ R' : Room, R' = { frames := R.frames, cells := 1, slots := 6, locals := R.locals } := ⟨_, rfl⟩
  have r1 : 0 + 1 ≤ R'.cells := by rw [hR']; exact Nat.le_refl 1
  have r2 : 0 + 6 ≤ R'.slots := by rw [hR']; exact Nat.le_refl 6
  have r3 : R'.frames = R.frames := by rw [hR']
  have r4 : R'.locals = R.locals := by rw [hR']
  rw [← hR'] at hX
  have key : W (mP M) l (mE M) R' s' (mM M) args (mB M) (mT M) (mC M) T.heap [] 0 0
      (fun U => U.status = .running ∧ Ended U (mB M) (.threw T.heap.size) ∧ s'.WarmedH U.vm ∧ s'.sameButNew ({ U with vm := s'.vm } : State) [] 1 6 ∧ ∃ ce : Cell, U.heap[T.heap.size]? = some ce ∧ ce.vm = .none ∧ s'.vm.findClass X = some ce.cls)
      (F0 (mM M) pc la st) := by
    refine W.newcK C.1 C.2.1 hfT w1 w2 w3 rfl d0 r1 r2 hfc rfl fun H' kC' hkC' e1 z1 o1 => ?_
    refine lv_dup C.1 C.2.1 d3 rfl ?_
    intro T2 hT2 X2
    obtain ⟨U, a1, a2, a3, a4, a5, ce, a6, a7⟩ := X2.ctorThrow0 C.1 C.2.2.2.2.2.2.2.2.1 (own := own) (cls := X) (names := names) (ic := ic) hfT hcls hnames (fun a ha => (hw a ha).elim (hTW a) (hSW a)) (fun x hx0 => by cases hx0)
      hfc hkC' (a := T.heap.size) (by rw [hT2]; exact e1) (by rw [hhS]; exact Nat.le_refl _) (g := F0 (mM M) (pc + 3 + 1) la (.ref T.heap.size :: .ref T.heap.size :: st)) rfl (by rw [hl.1]; exact C.2.2.1.symm) rfl rfl (rest := st) rfl (by rw [C.2.1]; exact d4) (by rw [C.2.1]; exact d7) (fun z hz => by rw [hx] at hz; cases hz)
      (by rw [r3]; exact hR.1) (by rw [r4]; have := hR.2; show 2 * 0 + (List.map (fun v => v.category) (Value.ref T.heap.size :: st)).sum + _ ≤ _; rw [List.map_cons, List.sum_cons, show (Value.ref T.heap.size).category = 1 from rfl]; omega) C.2.2.2.2.2.2.1
    exact ⟨U, a1, a2, a3, a4, a5, ce, a6, a7.vm, a7.cls⟩
  obtain ⟨U, st1, u1, u2, u3, u4, ce, u5, u6, u7⟩ := key T rfl hX
  subst hs'
  have hsame : ∀ q : Nat, q < T.heap.size → U.heap[q]? = T.heap[q]? := fun q hq => same_all u4 hq
  have hWT : T.WarmedH U.vm := u3
  refine ⟨U, st1, .threw T.heap.size, u1, u2, Or.inr ⟨T.heap.size, X, h, ce, rfl, hp, ⟨?_, ?_⟩, u5, by rw [u6]; rfl, ?_⟩, locs, ⟨State.WarmedH.trans XX.warmed hWT, ?_⟩, hS.2.2⟩
  · exact hP.kept (fun k q hq => by rw [hsame q.1 (by rw [hT]; exact (hP k q hq).lt), hT])
  · refine ⟨?_, fun q hq hn => ?_, fun q hq => by cases hq⟩
    · have := u4.2.1
      have h2 := hS.1
      rw [← hT] at h2
      exact Nat.le_trans h2 this
    · have h2 := hS.1
      rw [← hT] at h2
      rw [hsame q (by omega), hT]
      exact hS.2.1 q hq hn
  · rw [hWT.alike.findClass]; exact u7
  · have h3 : (T.setVm (mS M).vm).sameButNew ({ U with vm := (mS M).vm } : State) [] 1 6 := by
      have h4 : (T.setFrames (.invoking (mM M) args :: (mB M))).sameButNew ({ U with vm := T.vm } : State) [] 1 6 := u4
      have h5 := h4.setVm (mS M).vm
      obtain ⟨b1, b2⟩ := h5
      refine ⟨?_, b2⟩
      refine b1.trans ?_
      show ({ ((T.setFrames (.invoking (mM M) args :: (mB M))).setVm (mS M).vm).setFrames U.frames with heap := U.heap, slotsUsed := U.slotsUsed } : State) = _
      have e9 : ((T.setFrames (.invoking (mM M) args :: (mB M))).setVm (mS M).vm).setFrames U.frames = (T.setVm (mS M).vm).setFrames U.frames := by
        have : (T.setFrames (.invoking (mM M) args :: (mB M))).setVm (mS M).vm = (T.setVm (mS M).vm).setFrames (.invoking (mM M) args :: (mB M)) := rfl
        rw [this, State.setFrames_setFrames]
      rw [e9]
      rfl
    have h6 := XX.same.trans h3
    rw [List.append_nil] at h6
    exact h6
end VT
end
section
-- ===== a handler of the method's own, its class named cold or warm =====
/-- one entry that covers the pc: its class is linked; then it takes the object or passes it on -/
theorem go_cold {E : CtlPost} {e : Env} {d : Bool} {acts : List Action} {S : State} {f : JFrame} {a : Addr} {Q : Handler → Pre} {x : ExceptionTableEntry} {t : List ExceptionTableEntry} {c : ClassId} {cell : Cell} (hx : covers x f.pc = true) (h0 : x.catchType ≠ 0)
    (hl : S.vm.ClassLinks e.platform f.method.cls x.catchType c) (hcell : S.heap[a]? = some cell) (hobj : ∀ k, cell.vm ≠ .statics k) (hk : ∃ k, S.vm.classes[cell.cls]? = some k) (hc : ∃ k, S.vm.classes[c]? = some k) :
    wp (findHandler.go f a (x :: t)) Q E e d acts S ↔
      if S.vm.assignable cell.cls c = true then Q (.found x.handlerPc) d acts (S.setVm (S.vm.noted f.method.cls x.catchType (.cls c))) else wp (findHandler.go f a t) Q E e d acts (S.setVm (S.vm.noted f.method.cls x.catchType (.cls c))) := by
  simp only [covers] at hx
  obtain ⟨r1, r2⟩ := (resolveClass_links e.toSetting hl).op (op := VmOp.resolveClass f.method.cls x.catchType) rfl
  have hal : S.vm.Alike (S.vm.noted f.method.cls x.catchType (.cls c)) := (Vm.Alike.refl S.vm).noted _ _ _
  obtain ⟨k1, hk1⟩ := hk
  obtain ⟨k2, hk2⟩ := hc
  obtain ⟨k1', hk1', -⟩ := hal.2.2 _ _ hk1
  obtain ⟨k2', hk2', -⟩ := hal.2.2 _ _ hk2
  have ha : (S.vm.noted f.method.cls x.catchType (.cls c)).assignable cell.cls c = S.vm.assignable cell.cls c := by rw [hal.assignable]
  cases hfit : S.vm.assignable cell.cls c <;> rw [hfit] at ha <;> simp [findHandler.go, hx, h0, r1, r2, hcell, hobj, hk1', hk2', ha, VmOp.dirties, VmOp.acts]
/-- the search ends at the handler pc', with tables that are warmer -/
def FindW (e : Env) (s₀ S : State) (f : JFrame) (a : Addr) (t : List ExceptionTableEntry) (pc' : Nat) : Prop :=
  ∃ vm', s₀.WarmedH vm' ∧ ∀ (Q : Handler → Pre) (E : CtlPost) (d : Bool) (acts : List Action), wp (findHandler.go f a t) Q E e d acts S ↔ Q (.found pc') d acts (S.setVm vm')
section FW
variable {e : Env} {s₀ S : State} {f : JFrame} {a : Addr} {cell : Cell} {x : ExceptionTableEntry} {t : List ExceptionTableEntry} {own C X : String} {args : Array Value} {pc' : Nat}
theorem find_facts (hpl : e.platform.magicAccessors = ({} : Platform).magicAccessors) (hown : s₀.vm.findClass own = some f.method.cls) (hW : s₀.WarmedH S.vm) (hlk : (Cond.classLink own x.catchType C).before args s₀ = true) :
    ∃ c, s₀.vm.findClass C = some c ∧ S.vm.ClassLinks e.platform f.method.cls x.catchType c ∧ (∃ k, S.vm.classes[c]? = some k) ∧ s₀.WarmedH (S.vm.noted f.method.cls x.catchType (.cls c)) := by
  obtain ⟨c, hc, hcl⟩ := Cond.classLink_spec hown hlk e.platform hpl
  obtain ⟨dk, _, _, kt, hd, _, _, _, _, hkt, _, hopen⟩ := hcl.here
  obtain ⟨kt', hkt', -⟩ := hW.alike.2.2 _ _ hkt
  exact ⟨c, hc, hW.classLinks hcl, ⟨kt', hkt'⟩, hW.noted hd hopen (State.rightAt_cls hcl)⟩
theorem cls_of {s : State} {n : String} {c : ClassId} (h : s.vm.findClass n = some c) : ∃ k, s.vm.classes[c]? = some k := by
  obtain ⟨k, hk, -⟩ := Vm.findClass_spec h
  exact ⟨k, hk⟩
theorem find_hit (hpl : e.platform.magicAccessors = ({} : Platform).magicAccessors) (hown : s₀.vm.findClass own = some f.method.cls) (hW : s₀.WarmedH S.vm) (hlk : (Cond.classLink own x.catchType C).before args s₀ = true) (hx : covers x f.pc = true) (h0 : x.catchType ≠ 0)
    (hcell : S.heap[a]? = some cell) (hobj : cell.vm.isStatics = false) (hX : s₀.vm.findClass X = some cell.cls) (hca : (Cond.castable X C).before args s₀ = true) : FindW e s₀ S f a (x :: t) x.handlerPc := by
  obtain ⟨c, hc, hl, hcc, hW'⟩ := find_facts hpl hown hW hlk
  obtain ⟨k, hk⟩ := cls_of hX
  obtain ⟨k', hk', -⟩ := hW.alike.2.2 _ _ hk
  obtain ⟨c1, c2, e1, e2, has⟩ := Cond.castable_spec hca
  cases hX.symm.trans e1
  cases hc.symm.trans e2
  have has' : S.vm.assignable cell.cls c = true := by rw [hW.alike.assignable]; exact has
  exact ⟨_, hW', fun Q E d acts => by rw [go_cold hx h0 hl hcell (VmData.ne_statics_of hobj) ⟨k', hk'⟩ hcc, if_pos has']⟩
theorem find_pass (hpl : e.platform.magicAccessors = ({} : Platform).magicAccessors) (hown : s₀.vm.findClass own = some f.method.cls) (hW : s₀.WarmedH S.vm) (hlk : (Cond.classLink own x.catchType C).before args s₀ = true) (hx : covers x f.pc = true) (h0 : x.catchType ≠ 0)
    (hcell : S.heap[a]? = some cell) (hobj : cell.vm.isStatics = false) (hX : s₀.vm.findClass X = some cell.cls) (hno : (Cond.not (.castable X C)).before args s₀ = true)
    (k : ∀ vm', s₀.WarmedH vm' → FindW e s₀ (S.setVm vm') f a t pc') : FindW e s₀ S f a (x :: t) pc' := by
  obtain ⟨c, hc, hl, hcc, hW'⟩ := find_facts hpl hown hW hlk
  obtain ⟨k0, hk⟩ := cls_of hX
  obtain ⟨k', hk', -⟩ := hW.alike.2.2 _ _ hk
  obtain ⟨c1, c2, e1, e2, has⟩ := va_Nc.of hno
  cases hX.symm.trans e1
  cases hc.symm.trans e2
  have has' : ¬ S.vm.assignable cell.cls c = true := by rw [hW.alike.assignable, has]; decide
  obtain ⟨vm', hW2, hq⟩ := k _ hW'
  refine ⟨vm', hW2, fun Q E d acts => ?_⟩
  rw [go_cold hx h0 hl hcell (VmData.ne_statics_of hobj) ⟨k', hk'⟩ hcc, if_neg has', hq Q E d acts, State.setVm_twice]
end FW
theorem step_catch {e : Env} {s : State} {a : Addr} {f : JFrame} {r : List Frame} {pc : Nat} {vm' : Vm} (hfind : ∀ (Q : Handler → Pre) (E : CtlPost) (d : Bool) (acts : List Action), wp (findHandler f a) Q E e d acts s ↔ Q (.found pc) d acts (s.setVm vm')) :
    (stepThrowing e s a (.java f :: r)).Is ((s.setVm vm').setFrames (.java { f with pc := pc, stack := [.ref a] } :: r)) [] := by
  simp only [stepThrowing, searchFrame, vmDo]
  generalize hr : Sem.go _ e false [] s = res
  obtain ⟨as, rfl, ha⟩ := Sem.eq_ok_of hr (a := Handler.found pc) (s' := s.setVm vm') (acts' := []) (by simp [hfind _ _ _ _])
  exact ⟨rfl, ha⟩
section VK
variable {l : Launch} {R : Room} {args : Array Value} {M : MT} {g : Gh} {own : String} {cc : ByteArray} {nL : Nat} {Q : State → Prop} {cells slots : Nat} {h : Pic} {pc : Nat} {lv lv' : List (Nat × Value)} {st : List Value} {Post : Option Value → Pic → Prop} {PostX : String → Pic → Prop}
theorem VX_catch (C : Cx args M g own cc nL) {X : String} {t : List ExceptionTableEntry} (hx : (mC M).exceptionTable.toList = t) (pc' : Nat)
    (hf : ∀ (S : State) (la : Array Slot) (a : Addr) (cell : Cell), (mE M).platform.magicAccessors = ({} : Platform).magicAccessors → (mS M).WarmedH S.vm → S.heap[a]? = some cell → cell.vm.isStatics = false → (mS M).vm.findClass X = some cell.cls → FindW (mE M) (mS M) S (F0 (mM M) pc la st) a t pc')
    (k : ∀ a : Nat, V l R args M g nL Q cells slots h pc' lv [.ref a]) : VX l R args M g nL Q cells slots h X pc lv st := by
  intro H locs la x cell hP hS hl hcell hst hcl T hT XX
  have hpl : (mE M).platform.magicAccessors = ({} : Platform).magicAccessors := by rw [XX.admits.platform]
  have hvm : ((T.setTop (F0 (mM M) pc la st)).pushFrame (.throwing x)).vm = T.vm := rfl
  have hhp : ((T.setTop (F0 (mM M) pc la st)).pushFrame (.throwing x)).heap = T.heap := rfl
  obtain ⟨vm', hW', hq⟩ := hf ((T.setTop (F0 (mM M) pc la st)).pushFrame (.throwing x)) la x cell hpl (by rw [hvm]; exact XX.warmed) (by rw [hhp, hT]; exact hcell) hst hcl
  have hfind : ∀ (Q : Handler → Pre) (E : CtlPost) (d : Bool) (acts : List Action), wp (findHandler (F0 (mM M) pc la st) x) Q E (mE M) d acts ((T.setTop (F0 (mM M) pc la st)).pushFrame (.throwing x)) ↔ Q (.found pc') d acts (((T.setTop (F0 (mM M) pc la st)).pushFrame (.throwing x)).setVm vm') := fun Q E d acts => by
    rw [Jvm.W.findHandler_eq (meth := mT M) (code := mC M) XX.method' XX.code, hx]
    exact hq Q E d acts
  obtain ⟨t2, a1, b1⟩ := k x H locs la hP hS hl (T.setVm vm') hT (XX.noted hW')
  refine ⟨t2, ?_, b1⟩
  have hA := XX.here
  obtain ⟨hgo, hw⟩ := At.throwing (g := F0 (mM M) pc la st) hA x
  refine Steps.head hgo hw ?_
  rw [stepThread_throwing (frames_entered hA.top _), (step_catch hfind).1]
  obtain ⟨g₀, hg⟩ := Option.isSome_iff_exists.mp hA.top
  obtain ⟨r, hr⟩ := State.topJava?_eq_some.mp hg
  have hr' : (T.setVm vm').frames = .java g₀ :: r := hr
  rw [State.setTop_of_frames _ hr'] at a1
  have e1 : ∀ (u : State) (F G : List Frame), ((u.setFrames F).setVm vm').setFrames G = (u.setVm vm').setFrames G := fun u F G => by
    have : (u.setFrames F).setVm vm' = (u.setVm vm').setFrames F := rfl
    rw [this, State.setFrames_setFrames]
  rw [hr, List.tail_cons, State.pushFrame, e1, State.setTop_of_frames _ hr, e1]
  exact a1
end VK
theorem Ct_ofW {l : Launch} {g : Gh} {y : MethodName} {cc : ByteArray} {nL : Nat} {ret : Option FieldType} {hs : List (Nat × Nat × Nat × Nat)} {rm : Room} {As : List Value} {h : Pic} {Post : Option Value → Pic → Prop} {PostX : String → Pic → Prop} (hgok : gOk g) (htr : l.stackTraces = false) (hy : plainName y.cls = true) (hn : (lg_sl As).length ≤ nL)
    (body : ∀ M : MT, Cx As.toArray M g y.cls cc nL → (mT M).sig.returnType = ret → (mC M).exceptionTable.toList = tableOf hs → V l rm As.toArray M g nL (MQX (mB M) (QX g Post PostX) As.toArray (mS M) rm.cells rm.slots (gW g)) 0 0 h 0 (lv_args 0 As) []) : Ct l g y (.codeWith y cc nL ret hs) rm As h Post PostX := by
  refine MetFree.of_bodyS (code := cc) (maxLocals := nL) (ret := ret) hy ?_ ?_
  · intro args s m hh hnm
    obtain ⟨m', meth, c, h0, h1, h2, h3, h4, -, h5, h6, -⟩ := Cond.codeWith_spec (atoms_spec (ws := [.codeWith y cc nL ret hs]) hh _ List.mem_cons_self)
    cases hnm.symm.trans h0
    exact ⟨meth, c, h1, h2, h3, h4, h5, h6⟩
  · intro p e s m args below meth c s₁ B hml hP _
    obtain ⟨rfl, hW, hK⟩ := hP
    have hh0 : s₁.heap = s.heap := by rw [B.state]; rfl
    obtain ⟨m', meth', c', h0, h1, h2, h3, h4, h4t, h5, h6, -⟩ := Cond.codeWith_spec (atoms_spec (ws := [.codeWith y cc nL ret hs]) B.pre _ List.mem_cons_self)
    cases B.named.symm.trans h0
    cases B.method.symm.trans h1
    cases (Stand.of_body B).code.symm.trans h2
    have htbl : c.exceptionTable.toList = tableOf hs := by rw [← h4t, table_eq]
    have C : Cx As.toArray (p, e, s, m, below, meth, c) g y.cls cc nL := ⟨B.exec, B.bytes, hml, findClass_of_methodNamed B.named, hK, hgok, B.notSynchronized, kv_tr hgok hW.1, by rw [show e.platform.stackTraces = l.stackTraces by rw [B.admits.platform]]; exact htr, fun q hq => hW.2.2.1 q hq (fun ⟨k, hk, e⟩ => by have := hgok.2 k hk; omega)⟩
    have key := body (p, e, s, m, below, meth, c) C B.returns htbl s.heap [] _ hW.1 hW.2 (lv_entry As hn)
    rw [← lg_entry_eq] at key
    obtain ⟨t, a1, o, b1, b2, b3⟩ := key s₁ hh0 (Stand.of_body B)
    exact ⟨t, o, a1, b1, b2, ⟨b3.1, b3.2⟩⟩
end
section
-- ===== printed by gen/names.py: methods, their bytes, the words that walks use =====
abbrev RM (d c s : Nat) : Room := { frames := d, cells := c, slots := s, locals := 40 * d }
def y_G_init : MethodName := ⟨"GameGraph", "<init>", "()V"⟩
abbrev b_G_init : ByteArray := prog_1_method_2_code
abbrev k_G_init : Cond := .code y_G_init b_G_init 2 none
def y_S_init : MethodName := ⟨"GameGraph$State", "<init>", "()V"⟩
abbrev b_S_init : ByteArray := prog_2_method_1_code
abbrev k_S_init : Cond := .code y_S_init b_S_init 1 none
def y_S_end : MethodName := ⟨"GameGraph$State", "end", "(II)V"⟩
abbrev b_S_end : ByteArray := prog_2_method_2_code
abbrev k_S_end : Cond := .code y_S_end b_S_end 3 none
def y_G_reached : MethodName := ⟨"GameGraph", "reached", "()I"⟩
abbrev b_G_reached : ByteArray := prog_1_method_15_code
abbrev k_G_reached : Cond := .code y_G_reached b_G_reached 1 (some .int)
def y_G_look : MethodName := ⟨"GameGraph", "look", "()V"⟩
abbrev b_G_look : ByteArray := prog_1_method_14_code
abbrev k_G_look : Cond := .code y_G_look b_G_look 2 none
def y_G_reach : MethodName := ⟨"GameGraph", "reach", "()V"⟩
abbrev b_G_reach : ByteArray := prog_1_method_11_code
abbrev k_G_reach : Cond := .code y_G_reach b_G_reach 5 none
def y_S_defect : MethodName := ⟨"GameGraph$State", "defect", "()I"⟩
abbrev b_S_defect : ByteArray := prog_2_method_4_code
abbrev k_S_defect : Cond := .code y_S_defect b_S_defect 1 (some .int)
def y_G_comesBack : MethodName := ⟨"GameGraph", "comesBack", "(I)Z"⟩
abbrev b_G_comesBack : ByteArray := prog_1_method_12_code
abbrev k_G_comesBack : Cond := .code y_G_comesBack b_G_comesBack 7 (some .boolean)
def y_G_measure : MethodName := ⟨"GameGraph", "measure", "()V"⟩
abbrev b_G_measure : ByteArray := prog_1_method_13_code
abbrev k_G_measure : Cond := .code y_G_measure b_G_measure 4 none
def y_L_states : MethodName := ⟨"GameGraphLaw", "states", "(LGameGraph;I)I"⟩
abbrev b_L_states : ByteArray := method_3_code
abbrev k_L_states : Cond := .codeWith y_L_states b_L_states 3 (some .int) [(0, 5, 8, 13)]
def y_G_states : MethodName := ⟨"GameGraph", "states", "(I)V"⟩
abbrev b_G_states : ByteArray := prog_1_method_6_code
abbrev k_G_states : Cond := .code y_G_states b_G_states 3 none
def y_G_is : MethodName := ⟨"GameGraph", "is", "(III)Z"⟩
abbrev b_G_is : ByteArray := prog_1_method_1_code
abbrev k_G_is : Cond := .code y_G_is b_G_is 3 (some .boolean)
def y_G_need : MethodName := ⟨"GameGraph", "need", "(Z)V"⟩
abbrev b_G_need : ByteArray := prog_1_method_3_code
abbrev k_G_need : Cond := .code y_G_need b_G_need 1 none
def y_L_end : MethodName := ⟨"GameGraphLaw", "end", "(LGameGraph;III)I"⟩
abbrev b_L_end : ByteArray := method_4_code
abbrev k_L_end : Cond := .codeWith y_L_end b_L_end 5 (some .int) [(0, 7, 10, 19), (0, 7, 14, 13)]
def y_G_end : MethodName := ⟨"GameGraph", "end", "(III)V"⟩
abbrev b_G_end : ByteArray := prog_1_method_7_code
abbrev k_G_end : Cond := .code y_G_end b_G_end 5 none
def y_G_find : MethodName := ⟨"GameGraph", "find", "(I)LGameGraph$State;"⟩
abbrev b_G_find : ByteArray := prog_1_method_5_code
abbrev k_G_find : Cond := .code y_G_find b_G_find 2 (some (.object "GameGraph$State"))
def y_G_there : MethodName := ⟨"GameGraph", "there", "(Z)V"⟩
abbrev b_G_there : ByteArray := prog_1_method_4_code
abbrev k_G_there : Cond := .code y_G_there b_G_there 1 none
def y_L_open : MethodName := ⟨"GameGraphLaw", "open", "(LGameGraph;III)I"⟩
abbrev b_L_open : ByteArray := method_5_code
abbrev k_L_open : Cond := .codeWith y_L_open b_L_open 5 (some .int) [(0, 7, 10, 19), (0, 7, 14, 13)]
def y_G_open : MethodName := ⟨"GameGraph", "open", "(III)V"⟩
abbrev b_G_open : ByteArray := prog_1_method_8_code
abbrev k_G_open : Cond := .code y_G_open b_G_open 5 none
def y_S_open : MethodName := ⟨"GameGraph$State", "open", "(II)V"⟩
abbrev b_S_open : ByteArray := prog_2_method_3_code
abbrev k_S_open : Cond := .code y_S_open b_S_open 4 none
def y_L_link : MethodName := ⟨"GameGraphLaw", "link", "(LGameGraph;III)I"⟩
abbrev b_L_link : ByteArray := method_6_code
abbrev k_L_link : Cond := .codeWith y_L_link b_L_link 5 (some .int) [(0, 7, 10, 19)]
def y_G_link : MethodName := ⟨"GameGraph", "link", "(III)V"⟩
abbrev b_G_link : ByteArray := prog_1_method_9_code
abbrev k_G_link : Cond := .code y_G_link b_G_link 5 none
def y_L_next : MethodName := ⟨"GameGraphLaw", "next", "(LGameGraph;II[J)I"⟩
abbrev b_L_next : ByteArray := method_7_code
abbrev k_L_next : Cond := .codeWith y_L_next b_L_next 5 (some .int) [(0, 10, 13, 19)]
def y_G_next : MethodName := ⟨"GameGraph", "next", "(II)I"⟩
abbrev b_G_next : ByteArray := prog_1_method_10_code
abbrev k_G_next : Cond := .code y_G_next b_G_next 4 (some .int)
def y_L_defect : MethodName := ⟨"GameGraphLaw", "defect", "(LGameGraph;I[J)I"⟩
abbrev b_L_defect : ByteArray := method_8_code
abbrev k_L_defect : Cond := .codeWith y_L_defect b_L_defect 4 (some .int) [(0, 9, 12, 13)]
def y_G_defect : MethodName := ⟨"GameGraph", "defect", "(I)I"⟩
abbrev b_G_defect : ByteArray := prog_1_method_16_code
abbrev k_G_defect : Cond := .code y_G_defect b_G_defect 2 (some .int)
def y_L_value : MethodName := ⟨"GameGraphLaw", "value", "(LGameGraph;I[J)I"⟩
abbrev b_L_value : ByteArray := method_9_code
abbrev k_L_value : Cond := .codeWith y_L_value b_L_value 4 (some .int) [(0, 9, 12, 38), (0, 9, 15, 19)]
def y_G_value : MethodName := ⟨"GameGraph", "value", "(I)I"⟩
abbrev b_G_value : ByteArray := prog_1_method_20_code
abbrev k_G_value : Cond := .code y_G_value b_G_value 2 (some .int)
def y_G_findReached : MethodName := ⟨"GameGraph", "findReached", "(I)LGameGraph$State;"⟩
abbrev b_G_findReached : ByteArray := prog_1_method_19_code
abbrev k_G_findReached : Cond := .code y_G_findReached b_G_findReached 3 (some (.object "GameGraph$State"))
def y_G_valueOf : MethodName := ⟨"GameGraph", "valueOf", "(LGameGraph$State;)I"⟩
abbrev b_G_valueOf : ByteArray := prog_1_method_18_code
abbrev k_G_valueOf : Cond := .code y_G_valueOf b_G_valueOf 2 (some .int)
def y_G_search : MethodName := ⟨"GameGraph", "search", "(LGameGraph$State;II)I"⟩
abbrev b_G_search : ByteArray := prog_1_method_17_code
abbrev k_G_search : Cond := .code y_G_search b_G_search 12 (some .int)
def y_L_best : MethodName := ⟨"GameGraphLaw", "best", "(LGameGraph;I[J)I"⟩
abbrev b_L_best : ByteArray := method_10_code
abbrev k_L_best : Cond := .codeWith y_L_best b_L_best 4 (some .int) [(0, 9, 12, 38), (0, 9, 15, 19)]
def y_G_best : MethodName := ⟨"GameGraph", "best", "(I)I"⟩
abbrev b_G_best : ByteArray := prog_1_method_21_code
abbrev k_G_best : Cond := .code y_G_best b_G_best 5 (some .int)
def y_L_length : MethodName := ⟨"GameGraphLaw", "length", "(LGameGraph;I[J)I"⟩
abbrev b_L_length : ByteArray := method_11_code
abbrev k_L_length : Cond := .codeWith y_L_length b_L_length 4 (some .int) [(0, 9, 12, 38), (0, 9, 15, 19)]
def y_G_length : MethodName := ⟨"GameGraph", "length", "(I)I"⟩
abbrev b_G_length : ByteArray := prog_1_method_22_code
abbrev k_G_length : Cond := .code y_G_length b_G_length 2 (some .int)
def y_M_init : MethodName := ⟨"GameGraphModel", "<init>", "()V"⟩
abbrev b_M_init : ByteArray := prog_4_method_1_code
abbrev k_M_init : Cond := .code y_M_init b_M_init 1 none
def y_M_thrown : MethodName := ⟨"GameGraphModel", "thrown", "()I"⟩
abbrev b_M_thrown : ByteArray := prog_4_method_2_code
abbrev k_M_thrown : Cond := .code y_M_thrown b_M_thrown 1 (some .int)
def y_M_states : MethodName := ⟨"GameGraphModel", "states", "(I)V"⟩
abbrev b_M_states : ByteArray := prog_4_method_3_code
abbrev k_M_states : Cond := .code y_M_states b_M_states 3 none
def y_M_end : MethodName := ⟨"GameGraphModel", "end", "(III)V"⟩
abbrev b_M_end : ByteArray := prog_4_method_5_code
abbrev k_M_end : Cond := .code y_M_end b_M_end 4 none
def y_M_isState : MethodName := ⟨"GameGraphModel", "isState", "(I)Z"⟩
abbrev b_M_isState : ByteArray := prog_4_method_4_code
abbrev k_M_isState : Cond := .code y_M_isState b_M_isState 2 (some .boolean)
def y_M_open : MethodName := ⟨"GameGraphModel", "open", "(III)V"⟩
abbrev b_M_open : ByteArray := prog_4_method_7_code
abbrev k_M_open : Cond := .code y_M_open b_M_open 5 none
def y_M_isMany : MethodName := ⟨"GameGraphModel", "isMany", "(I)Z"⟩
abbrev b_M_isMany : ByteArray := prog_4_method_6_code
abbrev k_M_isMany : Cond := .code y_M_isMany b_M_isMany 1 (some .boolean)
def y_M_link : MethodName := ⟨"GameGraphModel", "link", "(III)V"⟩
abbrev b_M_link : ByteArray := prog_4_method_10_code
abbrev k_M_link : Cond := .code y_M_link b_M_link 4 none
def y_M_isJoint : MethodName := ⟨"GameGraphModel", "isJoint", "(II)Z"⟩
abbrev b_M_isJoint : ByteArray := prog_4_method_9_code
abbrev k_M_isJoint : Cond := .code y_M_isJoint b_M_isJoint 3 (some .boolean)
def y_M_joint : MethodName := ⟨"GameGraphModel", "joint", "(I)I"⟩
abbrev b_M_joint : ByteArray := prog_4_method_8_code
abbrev k_M_joint : Cond := .code y_M_joint b_M_joint 2 (some .int)
def y_M_next : MethodName := ⟨"GameGraphModel", "next", "(II)I"⟩
abbrev b_M_next : ByteArray := prog_4_method_11_code
abbrev k_M_next : Cond := .code y_M_next b_M_next 3 (some .int)
def y_M_reached : MethodName := ⟨"GameGraphModel", "reached", "()I"⟩
abbrev b_M_reached : ByteArray := prog_4_method_14_code
abbrev k_M_reached : Cond := .code y_M_reached b_M_reached 3 (some .int)
def y_M_reach : MethodName := ⟨"GameGraphModel", "reach", "()V"⟩
abbrev b_M_reach : ByteArray := prog_4_method_13_code
abbrev k_M_reach : Cond := .code y_M_reach b_M_reach 2 none
def y_M_spread : MethodName := ⟨"GameGraphModel", "spread", "([Z)V"⟩
abbrev b_M_spread : ByteArray := prog_4_method_12_code
abbrev k_M_spread : Cond := .code y_M_spread b_M_spread 5 none
def y_M_defect : MethodName := ⟨"GameGraphModel", "defect", "(I)I"⟩
abbrev b_M_defect : ByteArray := prog_4_method_18_code
abbrev k_M_defect : Cond := .code y_M_defect b_M_defect 3 (some .int)
def y_M_defective : MethodName := ⟨"GameGraphModel", "defective", "()I"⟩
abbrev b_M_defective : ByteArray := prog_4_method_17_code
abbrev k_M_defective : Cond := .code y_M_defective b_M_defective 2 (some .int)
def y_M_own : MethodName := ⟨"GameGraphModel", "own", "(I)I"⟩
abbrev b_M_own : ByteArray := prog_4_method_15_code
abbrev k_M_own : Cond := .code y_M_own b_M_own 2 (some .int)
def y_M_comesAgain : MethodName := ⟨"GameGraphModel", "comesAgain", "(I)Z"⟩
abbrev b_M_comesAgain : ByteArray := prog_4_method_16_code
abbrev k_M_comesAgain : Cond := .code y_M_comesAgain b_M_comesAgain 3 (some .boolean)
def y_M_value : MethodName := ⟨"GameGraphModel", "value", "(I)I"⟩
abbrev b_M_value : ByteArray := prog_4_method_21_code
abbrev k_M_value : Cond := .code y_M_value b_M_value 2 (some .int)
def y_M_asked : MethodName := ⟨"GameGraphModel", "asked", "(I)Z"⟩
abbrev b_M_asked : ByteArray := prog_4_method_20_code
abbrev k_M_asked : Cond := .code y_M_asked b_M_asked 4 (some .boolean)
def y_M_learn : MethodName := ⟨"GameGraphModel", "learn", "(I)V"⟩
abbrev b_M_learn : ByteArray := prog_4_method_19_code
abbrev k_M_learn : Cond := .code y_M_learn b_M_learn 5 none
def y_M_best : MethodName := ⟨"GameGraphModel", "best", "(I)I"⟩
abbrev b_M_best : ByteArray := prog_4_method_22_code
abbrev k_M_best : Cond := .code y_M_best b_M_best 3 (some .int)
def y_M_length : MethodName := ⟨"GameGraphModel", "length", "(I)I"⟩
abbrev b_M_length : ByteArray := prog_4_method_23_code
abbrev k_M_length : Cond := .code y_M_length b_M_length 2 (some .int)
abbrev b_L_law : ByteArray := code
theorem wf_S_15 : Cond.fieldLink "GameGraph$State" 15 "GameGraph$State" "ends" "Z" ∈ TA := by decide +kernel
theorem wf_S_19 : Cond.fieldLink "GameGraph$State" 19 "GameGraph$State" "first" "I" ∈ TA := by decide +kernel
theorem wf_S_23 : Cond.fieldLink "GameGraph$State" 23 "GameGraph$State" "second" "I" ∈ TA := by decide +kernel
theorem wf_S_26 : Cond.fieldLink "GameGraph$State" 26 "GameGraph$State" "joint" "I" ∈ TA := by decide +kernel
theorem wf_S_9 : Cond.fieldLink "GameGraph$State" 9 "GameGraph$State" "next" "[I" ∈ TA := by decide +kernel
theorem wf_G_11 : Cond.fieldLink "GameGraph" 11 "GameGraph" "states" "[LGameGraph$State;" ∈ TA := by decide +kernel
theorem wf_G_15 : Cond.fieldLink "GameGraph" 15 "GameGraph" "count" "I" ∈ TA := by decide +kernel
theorem wf_G_49 : Cond.fieldLink "GameGraph" 49 "GameGraph" "isKnown" "Z" ∈ TA := by decide +kernel
theorem wf_G_69 : Cond.fieldLink "GameGraph" 69 "GameGraph" "reached" "I" ∈ TA := by decide +kernel
theorem wf_G_96 : Cond.fieldLink "GameGraph" 96 "GameGraph" "defect" "I" ∈ TA := by decide +kernel
theorem wf_G_99 : Cond.fieldLink "GameGraph" 99 "GameGraph" "where" "I" ∈ TA := by decide +kernel
theorem wf_G_19 : Cond.fieldLink "GameGraph" 19 "GameGraph" "way" "[I" ∈ TA := by decide +kernel
theorem wf_G_23 : Cond.fieldLink "GameGraph" 23 "GameGraph" "seen" "[Z" ∈ TA := by decide +kernel
theorem wf_M_7 : Cond.fieldLink "GameGraphModel" 7 "GameGraphModel" "states" "I" ∈ TA := by decide +kernel
theorem wf_M_13 : Cond.fieldLink "GameGraphModel" 13 "GameGraphModel" "open" "[Z" ∈ TA := by decide +kernel
theorem wf_M_17 : Cond.fieldLink "GameGraphModel" 17 "GameGraphModel" "goalOne" "[I" ∈ TA := by decide +kernel
theorem wf_M_21 : Cond.fieldLink "GameGraphModel" 21 "GameGraphModel" "goalTwo" "[I" ∈ TA := by decide +kernel
theorem wf_M_24 : Cond.fieldLink "GameGraphModel" 24 "GameGraphModel" "movesOne" "[I" ∈ TA := by decide +kernel
theorem wf_M_27 : Cond.fieldLink "GameGraphModel" 27 "GameGraphModel" "movesTwo" "[I" ∈ TA := by decide +kernel
theorem wf_M_30 : Cond.fieldLink "GameGraphModel" 30 "GameGraphModel" "goes" "[I" ∈ TA := by decide +kernel
theorem wf_M_33 : Cond.fieldLink "GameGraphModel" 33 "GameGraphModel" "reached" "[Z" ∈ TA := by decide +kernel
theorem wf_M_36 : Cond.fieldLink "GameGraphModel" 36 "GameGraphModel" "from" "[Z" ∈ TA := by decide +kernel
theorem wf_M_39 : Cond.fieldLink "GameGraphModel" 39 "GameGraphModel" "known" "[Z" ∈ TA := by decide +kernel
theorem wf_M_42 : Cond.fieldLink "GameGraphModel" 42 "GameGraphModel" "value" "[I" ∈ TA := by decide +kernel
theorem wf_M_45 : Cond.fieldLink "GameGraphModel" 45 "GameGraphModel" "length" "[I" ∈ TA := by decide +kernel
theorem wf_M_48 : Cond.fieldLink "GameGraphModel" 48 "GameGraphModel" "thrown" "I" ∈ TA := by decide +kernel
theorem wn_G_115 : Cond.fieldLinkNest "GameGraph" 115 "GameGraph$State" "ends" "Z" "GameGraph" ∈ TA := by decide +kernel
theorem wn_G_118 : Cond.fieldLinkNest "GameGraph" 118 "GameGraph$State" "first" "I" "GameGraph" ∈ TA := by decide +kernel
theorem wn_G_60 : Cond.fieldLinkNest "GameGraph" 60 "GameGraph$State" "joint" "I" "GameGraph" ∈ TA := by decide +kernel
theorem wn_G_63 : Cond.fieldLinkNest "GameGraph" 63 "GameGraph$State" "next" "[I" "GameGraph" ∈ TA := by decide +kernel
theorem wn_G_66 : Cond.fieldLinkNest "GameGraph" 66 "GameGraph$State" "isReached" "Z" "GameGraph" ∈ TA := by decide +kernel
theorem wn_G_72 : Cond.fieldLinkNest "GameGraph" 72 "GameGraph$State" "gone" "I" "GameGraph" ∈ TA := by decide +kernel
theorem wn_G_75 : Cond.fieldLinkNest "GameGraph" 75 "GameGraph$State" "isDone" "Z" "GameGraph" ∈ TA := by decide +kernel
theorem wn_G_78 : Cond.fieldLinkNest "GameGraph" 78 "GameGraph$State" "length" "I" "GameGraph" ∈ TA := by decide +kernel
theorem wn_G_81 : Cond.fieldLinkNest "GameGraph" 81 "GameGraph$State" "low" "I" "GameGraph" ∈ TA := by decide +kernel
theorem wn_G_84 : Cond.fieldLinkNest "GameGraph" 84 "GameGraph$State" "high" "I" "GameGraph" ∈ TA := by decide +kernel
theorem wl_L_46 : Cond.methodLink "GameGraphLaw" 46 y_G_init ∈ TA := by decide +kernel
theorem wl_G_28 : Cond.methodLink "GameGraph" 28 y_S_end ∈ TA := by decide +kernel
theorem wl_L_74 : Cond.methodLink "GameGraphLaw" 74 y_G_reached ∈ TA := by decide +kernel
theorem wl_G_112 : Cond.methodLink "GameGraph" 112 y_G_look ∈ TA := by decide +kernel
theorem wl_G_93 : Cond.methodLink "GameGraph" 93 y_G_reach ∈ TA := by decide +kernel
theorem wl_G_102 : Cond.methodLink "GameGraph" 102 y_S_defect ∈ TA := by decide +kernel
theorem wl_G_105 : Cond.methodLink "GameGraph" 105 y_G_comesBack ∈ TA := by decide +kernel
theorem wl_G_109 : Cond.methodLink "GameGraph" 109 y_G_measure ∈ TA := by decide +kernel
theorem wl_L_50 : Cond.methodLink "GameGraphLaw" 50 y_L_states ∈ TA := by decide +kernel
theorem wl_L_7 : Cond.methodLink "GameGraphLaw" 7 y_G_states ∈ TA := by decide +kernel
theorem wl_G_38 : Cond.methodLink "GameGraph" 38 y_G_is ∈ TA := by decide +kernel
theorem wl_G_46 : Cond.methodLink "GameGraph" 46 y_G_need ∈ TA := by decide +kernel
theorem wl_L_60 : Cond.methodLink "GameGraphLaw" 60 y_L_end ∈ TA := by decide +kernel
theorem wl_L_15 : Cond.methodLink "GameGraphLaw" 15 y_G_end ∈ TA := by decide +kernel
theorem wl_G_53 : Cond.methodLink "GameGraph" 53 y_G_find ∈ TA := by decide +kernel
theorem wl_G_42 : Cond.methodLink "GameGraph" 42 y_G_there ∈ TA := by decide +kernel
theorem wl_L_64 : Cond.methodLink "GameGraphLaw" 64 y_L_open ∈ TA := by decide +kernel
theorem wl_L_21 : Cond.methodLink "GameGraphLaw" 21 y_G_open ∈ TA := by decide +kernel
theorem wl_G_57 : Cond.methodLink "GameGraph" 57 y_S_open ∈ TA := by decide +kernel
theorem wl_L_67 : Cond.methodLink "GameGraphLaw" 67 y_L_link ∈ TA := by decide +kernel
theorem wl_L_24 : Cond.methodLink "GameGraphLaw" 24 y_G_link ∈ TA := by decide +kernel
theorem wl_L_70 : Cond.methodLink "GameGraphLaw" 70 y_L_next ∈ TA := by decide +kernel
theorem wl_L_27 : Cond.methodLink "GameGraphLaw" 27 y_G_next ∈ TA := by decide +kernel
theorem wl_L_78 : Cond.methodLink "GameGraphLaw" 78 y_L_defect ∈ TA := by decide +kernel
theorem wl_L_31 : Cond.methodLink "GameGraphLaw" 31 y_G_defect ∈ TA := by decide +kernel
theorem wl_L_82 : Cond.methodLink "GameGraphLaw" 82 y_L_value ∈ TA := by decide +kernel
theorem wl_L_35 : Cond.methodLink "GameGraphLaw" 35 y_G_value ∈ TA := by decide +kernel
theorem wl_G_131 : Cond.methodLink "GameGraph" 131 y_G_findReached ∈ TA := by decide +kernel
theorem wl_G_134 : Cond.methodLink "GameGraph" 134 y_G_valueOf ∈ TA := by decide +kernel
theorem wl_G_124 : Cond.methodLink "GameGraph" 124 y_G_search ∈ TA := by decide +kernel
theorem wl_L_85 : Cond.methodLink "GameGraphLaw" 85 y_L_best ∈ TA := by decide +kernel
theorem wl_L_40 : Cond.methodLink "GameGraphLaw" 40 y_G_best ∈ TA := by decide +kernel
theorem wl_L_88 : Cond.methodLink "GameGraphLaw" 88 y_L_length ∈ TA := by decide +kernel
theorem wl_L_43 : Cond.methodLink "GameGraphLaw" 43 y_G_length ∈ TA := by decide +kernel
theorem wl_L_49 : Cond.methodLink "GameGraphLaw" 49 y_M_init ∈ TA := by decide +kernel
theorem wl_L_56 : Cond.methodLink "GameGraphLaw" 56 y_M_thrown ∈ TA := by decide +kernel
theorem wl_L_55 : Cond.methodLink "GameGraphLaw" 55 y_M_states ∈ TA := by decide +kernel
theorem wl_L_63 : Cond.methodLink "GameGraphLaw" 63 y_M_end ∈ TA := by decide +kernel
theorem wl_M_51 : Cond.methodLink "GameGraphModel" 51 y_M_isState ∈ TA := by decide +kernel
theorem wl_L_66 : Cond.methodLink "GameGraphLaw" 66 y_M_open ∈ TA := by decide +kernel
theorem wl_M_55 : Cond.methodLink "GameGraphModel" 55 y_M_isMany ∈ TA := by decide +kernel
theorem wl_L_69 : Cond.methodLink "GameGraphLaw" 69 y_M_link ∈ TA := by decide +kernel
theorem wl_M_62 : Cond.methodLink "GameGraphModel" 62 y_M_isJoint ∈ TA := by decide +kernel
theorem wl_M_58 : Cond.methodLink "GameGraphModel" 58 y_M_joint ∈ TA := by decide +kernel
theorem wl_L_73 : Cond.methodLink "GameGraphLaw" 73 y_M_next ∈ TA := by decide +kernel
theorem wl_L_77 : Cond.methodLink "GameGraphLaw" 77 y_M_reached ∈ TA := by decide +kernel
theorem wl_M_70 : Cond.methodLink "GameGraphModel" 70 y_M_reach ∈ TA := by decide +kernel
theorem wl_M_66 : Cond.methodLink "GameGraphModel" 66 y_M_spread ∈ TA := by decide +kernel
theorem wl_L_81 : Cond.methodLink "GameGraphLaw" 81 y_M_defect ∈ TA := by decide +kernel
theorem wl_M_79 : Cond.methodLink "GameGraphModel" 79 y_M_defective ∈ TA := by decide +kernel
theorem wl_M_73 : Cond.methodLink "GameGraphModel" 73 y_M_own ∈ TA := by decide +kernel
theorem wl_M_76 : Cond.methodLink "GameGraphModel" 76 y_M_comesAgain ∈ TA := by decide +kernel
theorem wl_L_84 : Cond.methodLink "GameGraphLaw" 84 y_M_value ∈ TA := by decide +kernel
theorem wl_M_87 : Cond.methodLink "GameGraphModel" 87 y_M_asked ∈ TA := by decide +kernel
theorem wl_M_83 : Cond.methodLink "GameGraphModel" 83 y_M_learn ∈ TA := by decide +kernel
theorem wl_L_87 : Cond.methodLink "GameGraphLaw" 87 y_M_best ∈ TA := by decide +kernel
theorem wl_L_90 : Cond.methodLink "GameGraphLaw" 90 y_M_length ∈ TA := by decide +kernel
theorem wq_G_27 : Cond.methodLinkNest "GameGraph" 27 y_S_init "GameGraph" ∈ TA := by decide +kernel
theorem wi_G_init : Cond.instanceMethod y_G_init ∈ TA := by decide +kernel
theorem wc_G_init : k_G_init ∈ TA := by decide +kernel
theorem wi_S_init : Cond.instanceMethod y_S_init ∈ TA := by decide +kernel
theorem wc_S_init : k_S_init ∈ TA := by decide +kernel
theorem wi_S_end : Cond.instanceMethod y_S_end ∈ TA := by decide +kernel
theorem ws_S_end : Cond.selects "GameGraph$State" y_S_end y_S_end ∈ TA := by decide +kernel
theorem wc_S_end : k_S_end ∈ TA := by decide +kernel
theorem wi_G_reached : Cond.instanceMethod y_G_reached ∈ TA := by decide +kernel
theorem ws_G_reached : Cond.selects "GameGraph" y_G_reached y_G_reached ∈ TA := by decide +kernel
theorem wc_G_reached : k_G_reached ∈ TA := by decide +kernel
theorem wi_G_look : Cond.instanceMethod y_G_look ∈ TA := by decide +kernel
theorem ws_G_look : Cond.selects "GameGraph" y_G_look y_G_look ∈ TA := by decide +kernel
theorem wc_G_look : k_G_look ∈ TA := by decide +kernel
theorem wi_G_reach : Cond.instanceMethod y_G_reach ∈ TA := by decide +kernel
theorem ws_G_reach : Cond.selects "GameGraph" y_G_reach y_G_reach ∈ TA := by decide +kernel
theorem wc_G_reach : k_G_reach ∈ TA := by decide +kernel
theorem wi_S_defect : Cond.instanceMethod y_S_defect ∈ TA := by decide +kernel
theorem ws_S_defect : Cond.selects "GameGraph$State" y_S_defect y_S_defect ∈ TA := by decide +kernel
theorem wc_S_defect : k_S_defect ∈ TA := by decide +kernel
theorem wi_G_comesBack : Cond.instanceMethod y_G_comesBack ∈ TA := by decide +kernel
theorem ws_G_comesBack : Cond.selects "GameGraph" y_G_comesBack y_G_comesBack ∈ TA := by decide +kernel
theorem wc_G_comesBack : k_G_comesBack ∈ TA := by decide +kernel
theorem wi_G_measure : Cond.instanceMethod y_G_measure ∈ TA := by decide +kernel
theorem ws_G_measure : Cond.selects "GameGraph" y_G_measure y_G_measure ∈ TA := by decide +kernel
theorem wc_G_measure : k_G_measure ∈ TA := by decide +kernel
theorem wt_L_states : Cond.static y_L_states ∈ TA := by decide +kernel
theorem wc_L_states : k_L_states ∈ TA := by decide +kernel
theorem wi_G_states : Cond.instanceMethod y_G_states ∈ TA := by decide +kernel
theorem ws_G_states : Cond.selects "GameGraph" y_G_states y_G_states ∈ TA := by decide +kernel
theorem wc_G_states : k_G_states ∈ TA := by decide +kernel
theorem wt_G_is : Cond.static y_G_is ∈ TA := by decide +kernel
theorem wc_G_is : k_G_is ∈ TA := by decide +kernel
theorem wt_G_need : Cond.static y_G_need ∈ TA := by decide +kernel
theorem wc_G_need : k_G_need ∈ TA := by decide +kernel
theorem wt_L_end : Cond.static y_L_end ∈ TA := by decide +kernel
theorem wc_L_end : k_L_end ∈ TA := by decide +kernel
theorem wi_G_end : Cond.instanceMethod y_G_end ∈ TA := by decide +kernel
theorem ws_G_end : Cond.selects "GameGraph" y_G_end y_G_end ∈ TA := by decide +kernel
theorem wc_G_end : k_G_end ∈ TA := by decide +kernel
theorem wi_G_find : Cond.instanceMethod y_G_find ∈ TA := by decide +kernel
theorem ws_G_find : Cond.selects "GameGraph" y_G_find y_G_find ∈ TA := by decide +kernel
theorem wc_G_find : k_G_find ∈ TA := by decide +kernel
theorem wt_G_there : Cond.static y_G_there ∈ TA := by decide +kernel
theorem wc_G_there : k_G_there ∈ TA := by decide +kernel
theorem wt_L_open : Cond.static y_L_open ∈ TA := by decide +kernel
theorem wc_L_open : k_L_open ∈ TA := by decide +kernel
theorem wi_G_open : Cond.instanceMethod y_G_open ∈ TA := by decide +kernel
theorem ws_G_open : Cond.selects "GameGraph" y_G_open y_G_open ∈ TA := by decide +kernel
theorem wc_G_open : k_G_open ∈ TA := by decide +kernel
theorem wi_S_open : Cond.instanceMethod y_S_open ∈ TA := by decide +kernel
theorem ws_S_open : Cond.selects "GameGraph$State" y_S_open y_S_open ∈ TA := by decide +kernel
theorem wc_S_open : k_S_open ∈ TA := by decide +kernel
theorem wt_L_link : Cond.static y_L_link ∈ TA := by decide +kernel
theorem wc_L_link : k_L_link ∈ TA := by decide +kernel
theorem wi_G_link : Cond.instanceMethod y_G_link ∈ TA := by decide +kernel
theorem ws_G_link : Cond.selects "GameGraph" y_G_link y_G_link ∈ TA := by decide +kernel
theorem wc_G_link : k_G_link ∈ TA := by decide +kernel
theorem wt_L_next : Cond.static y_L_next ∈ TA := by decide +kernel
theorem wc_L_next : k_L_next ∈ TA := by decide +kernel
theorem wi_G_next : Cond.instanceMethod y_G_next ∈ TA := by decide +kernel
theorem ws_G_next : Cond.selects "GameGraph" y_G_next y_G_next ∈ TA := by decide +kernel
theorem wc_G_next : k_G_next ∈ TA := by decide +kernel
theorem wt_L_defect : Cond.static y_L_defect ∈ TA := by decide +kernel
theorem wc_L_defect : k_L_defect ∈ TA := by decide +kernel
theorem wi_G_defect : Cond.instanceMethod y_G_defect ∈ TA := by decide +kernel
theorem ws_G_defect : Cond.selects "GameGraph" y_G_defect y_G_defect ∈ TA := by decide +kernel
theorem wc_G_defect : k_G_defect ∈ TA := by decide +kernel
theorem wt_L_value : Cond.static y_L_value ∈ TA := by decide +kernel
theorem wc_L_value : k_L_value ∈ TA := by decide +kernel
theorem wi_G_value : Cond.instanceMethod y_G_value ∈ TA := by decide +kernel
theorem ws_G_value : Cond.selects "GameGraph" y_G_value y_G_value ∈ TA := by decide +kernel
theorem wc_G_value : k_G_value ∈ TA := by decide +kernel
theorem wi_G_findReached : Cond.instanceMethod y_G_findReached ∈ TA := by decide +kernel
theorem ws_G_findReached : Cond.selects "GameGraph" y_G_findReached y_G_findReached ∈ TA := by decide +kernel
theorem wc_G_findReached : k_G_findReached ∈ TA := by decide +kernel
theorem wi_G_valueOf : Cond.instanceMethod y_G_valueOf ∈ TA := by decide +kernel
theorem ws_G_valueOf : Cond.selects "GameGraph" y_G_valueOf y_G_valueOf ∈ TA := by decide +kernel
theorem wc_G_valueOf : k_G_valueOf ∈ TA := by decide +kernel
theorem wi_G_search : Cond.instanceMethod y_G_search ∈ TA := by decide +kernel
theorem ws_G_search : Cond.selects "GameGraph" y_G_search y_G_search ∈ TA := by decide +kernel
theorem wc_G_search : k_G_search ∈ TA := by decide +kernel
theorem wt_L_best : Cond.static y_L_best ∈ TA := by decide +kernel
theorem wc_L_best : k_L_best ∈ TA := by decide +kernel
theorem wi_G_best : Cond.instanceMethod y_G_best ∈ TA := by decide +kernel
theorem ws_G_best : Cond.selects "GameGraph" y_G_best y_G_best ∈ TA := by decide +kernel
theorem wc_G_best : k_G_best ∈ TA := by decide +kernel
theorem wt_L_length : Cond.static y_L_length ∈ TA := by decide +kernel
theorem wc_L_length : k_L_length ∈ TA := by decide +kernel
theorem wi_G_length : Cond.instanceMethod y_G_length ∈ TA := by decide +kernel
theorem ws_G_length : Cond.selects "GameGraph" y_G_length y_G_length ∈ TA := by decide +kernel
theorem wc_G_length : k_G_length ∈ TA := by decide +kernel
theorem wi_M_init : Cond.instanceMethod y_M_init ∈ TA := by decide +kernel
theorem wc_M_init : k_M_init ∈ TA := by decide +kernel
theorem wi_M_thrown : Cond.instanceMethod y_M_thrown ∈ TA := by decide +kernel
theorem ws_M_thrown : Cond.selects "GameGraphModel" y_M_thrown y_M_thrown ∈ TA := by decide +kernel
theorem wc_M_thrown : k_M_thrown ∈ TA := by decide +kernel
theorem wi_M_states : Cond.instanceMethod y_M_states ∈ TA := by decide +kernel
theorem ws_M_states : Cond.selects "GameGraphModel" y_M_states y_M_states ∈ TA := by decide +kernel
theorem wc_M_states : k_M_states ∈ TA := by decide +kernel
theorem wi_M_end : Cond.instanceMethod y_M_end ∈ TA := by decide +kernel
theorem ws_M_end : Cond.selects "GameGraphModel" y_M_end y_M_end ∈ TA := by decide +kernel
theorem wc_M_end : k_M_end ∈ TA := by decide +kernel
theorem wi_M_isState : Cond.instanceMethod y_M_isState ∈ TA := by decide +kernel
theorem ws_M_isState : Cond.selects "GameGraphModel" y_M_isState y_M_isState ∈ TA := by decide +kernel
theorem wc_M_isState : k_M_isState ∈ TA := by decide +kernel
theorem wi_M_open : Cond.instanceMethod y_M_open ∈ TA := by decide +kernel
theorem ws_M_open : Cond.selects "GameGraphModel" y_M_open y_M_open ∈ TA := by decide +kernel
theorem wc_M_open : k_M_open ∈ TA := by decide +kernel
theorem wt_M_isMany : Cond.static y_M_isMany ∈ TA := by decide +kernel
theorem wc_M_isMany : k_M_isMany ∈ TA := by decide +kernel
theorem wi_M_link : Cond.instanceMethod y_M_link ∈ TA := by decide +kernel
theorem ws_M_link : Cond.selects "GameGraphModel" y_M_link y_M_link ∈ TA := by decide +kernel
theorem wc_M_link : k_M_link ∈ TA := by decide +kernel
theorem wi_M_isJoint : Cond.instanceMethod y_M_isJoint ∈ TA := by decide +kernel
theorem ws_M_isJoint : Cond.selects "GameGraphModel" y_M_isJoint y_M_isJoint ∈ TA := by decide +kernel
theorem wc_M_isJoint : k_M_isJoint ∈ TA := by decide +kernel
theorem wi_M_joint : Cond.instanceMethod y_M_joint ∈ TA := by decide +kernel
theorem ws_M_joint : Cond.selects "GameGraphModel" y_M_joint y_M_joint ∈ TA := by decide +kernel
theorem wc_M_joint : k_M_joint ∈ TA := by decide +kernel
theorem wi_M_next : Cond.instanceMethod y_M_next ∈ TA := by decide +kernel
theorem ws_M_next : Cond.selects "GameGraphModel" y_M_next y_M_next ∈ TA := by decide +kernel
theorem wc_M_next : k_M_next ∈ TA := by decide +kernel
theorem wi_M_reached : Cond.instanceMethod y_M_reached ∈ TA := by decide +kernel
theorem ws_M_reached : Cond.selects "GameGraphModel" y_M_reached y_M_reached ∈ TA := by decide +kernel
theorem wc_M_reached : k_M_reached ∈ TA := by decide +kernel
theorem wi_M_reach : Cond.instanceMethod y_M_reach ∈ TA := by decide +kernel
theorem ws_M_reach : Cond.selects "GameGraphModel" y_M_reach y_M_reach ∈ TA := by decide +kernel
theorem wc_M_reach : k_M_reach ∈ TA := by decide +kernel
theorem wi_M_spread : Cond.instanceMethod y_M_spread ∈ TA := by decide +kernel
theorem ws_M_spread : Cond.selects "GameGraphModel" y_M_spread y_M_spread ∈ TA := by decide +kernel
theorem wc_M_spread : k_M_spread ∈ TA := by decide +kernel
theorem wi_M_defect : Cond.instanceMethod y_M_defect ∈ TA := by decide +kernel
theorem ws_M_defect : Cond.selects "GameGraphModel" y_M_defect y_M_defect ∈ TA := by decide +kernel
theorem wc_M_defect : k_M_defect ∈ TA := by decide +kernel
theorem wi_M_defective : Cond.instanceMethod y_M_defective ∈ TA := by decide +kernel
theorem ws_M_defective : Cond.selects "GameGraphModel" y_M_defective y_M_defective ∈ TA := by decide +kernel
theorem wc_M_defective : k_M_defective ∈ TA := by decide +kernel
theorem wi_M_own : Cond.instanceMethod y_M_own ∈ TA := by decide +kernel
theorem ws_M_own : Cond.selects "GameGraphModel" y_M_own y_M_own ∈ TA := by decide +kernel
theorem wc_M_own : k_M_own ∈ TA := by decide +kernel
theorem wi_M_comesAgain : Cond.instanceMethod y_M_comesAgain ∈ TA := by decide +kernel
theorem ws_M_comesAgain : Cond.selects "GameGraphModel" y_M_comesAgain y_M_comesAgain ∈ TA := by decide +kernel
theorem wc_M_comesAgain : k_M_comesAgain ∈ TA := by decide +kernel
theorem wi_M_value : Cond.instanceMethod y_M_value ∈ TA := by decide +kernel
theorem ws_M_value : Cond.selects "GameGraphModel" y_M_value y_M_value ∈ TA := by decide +kernel
theorem wc_M_value : k_M_value ∈ TA := by decide +kernel
theorem wi_M_asked : Cond.instanceMethod y_M_asked ∈ TA := by decide +kernel
theorem ws_M_asked : Cond.selects "GameGraphModel" y_M_asked y_M_asked ∈ TA := by decide +kernel
theorem wc_M_asked : k_M_asked ∈ TA := by decide +kernel
theorem wi_M_learn : Cond.instanceMethod y_M_learn ∈ TA := by decide +kernel
theorem ws_M_learn : Cond.selects "GameGraphModel" y_M_learn y_M_learn ∈ TA := by decide +kernel
theorem wc_M_learn : k_M_learn ∈ TA := by decide +kernel
theorem wi_M_best : Cond.instanceMethod y_M_best ∈ TA := by decide +kernel
theorem ws_M_best : Cond.selects "GameGraphModel" y_M_best y_M_best ∈ TA := by decide +kernel
theorem wc_M_best : k_M_best ∈ TA := by decide +kernel
theorem wi_M_length : Cond.instanceMethod y_M_length ∈ TA := by decide +kernel
theorem ws_M_length : Cond.selects "GameGraphModel" y_M_length y_M_length ∈ TA := by decide +kernel
theorem wc_M_length : k_M_length ∈ TA := by decide +kernel
theorem wz_G : Cond.initialized "GameGraph" ∈ TA := by decide +kernel
theorem wz_S : Cond.initialized "GameGraph$State" ∈ TA := by decide +kernel
theorem wz_M : Cond.initialized "GameGraphModel" ∈ TA := by decide +kernel
theorem wz_L : Cond.initialized "GameGraphLaw" ∈ TA := by decide +kernel
theorem wk_L_8 : Cond.classLink "GameGraphLaw" 8 "GameGraph" ∈ TA := by decide +kernel
theorem wk_G_9 : Cond.classLink "GameGraph" 9 "GameGraph$State" ∈ TA := by decide +kernel
theorem wk_L_13 : Cond.classLink "GameGraphLaw" 13 "java/lang/IllegalArgumentException" ∈ TA := by decide +kernel
theorem wk_G_32 : Cond.classLink "GameGraph" 32 "java/lang/IllegalArgumentException" ∈ TA := by decide +kernel
theorem wk_L_19 : Cond.classLink "GameGraphLaw" 19 "java/lang/IndexOutOfBoundsException" ∈ TA := by decide +kernel
theorem wk_G_35 : Cond.classLink "GameGraph" 35 "java/lang/IndexOutOfBoundsException" ∈ TA := by decide +kernel
theorem wk_L_38 : Cond.classLink "GameGraphLaw" 38 "java/lang/IllegalStateException" ∈ TA := by decide +kernel
theorem wk_G_128 : Cond.classLink "GameGraph" 128 "java/lang/IllegalStateException" ∈ TA := by decide +kernel
theorem wk_L_47 : Cond.classLink "GameGraphLaw" 47 "GameGraphModel" ∈ TA := by decide +kernel
theorem wz_IA : Cond.initialized "java/lang/IllegalArgumentException" ∈ TA := by decide +kernel
theorem wx_IA : Cond.instantiable "java/lang/IllegalArgumentException" 6 ∈ TA := by decide +kernel
theorem wy_IA : Cond.castable "java/lang/IllegalArgumentException" "java/lang/IllegalArgumentException" ∈ TA := by decide +kernel
theorem wz_IO : Cond.initialized "java/lang/IndexOutOfBoundsException" ∈ TA := by decide +kernel
theorem wx_IO : Cond.instantiable "java/lang/IndexOutOfBoundsException" 6 ∈ TA := by decide +kernel
theorem wy_IO : Cond.castable "java/lang/IndexOutOfBoundsException" "java/lang/IndexOutOfBoundsException" ∈ TA := by decide +kernel
theorem wz_IS : Cond.initialized "java/lang/IllegalStateException" ∈ TA := by decide +kernel
theorem wx_IS : Cond.instantiable "java/lang/IllegalStateException" 6 ∈ TA := by decide +kernel
theorem wy_IS : Cond.castable "java/lang/IllegalStateException" "java/lang/IllegalStateException" ∈ TA := by decide +kernel
theorem wnc_1 : Cond.not (.castable "java/lang/IllegalArgumentException" "java/lang/IndexOutOfBoundsException") ∈ TA := by decide +kernel
theorem wnc_2 : Cond.not (.castable "java/lang/IndexOutOfBoundsException" "java/lang/IllegalStateException") ∈ TA := by decide +kernel
theorem wm_max_l : Cond.methodLink "GameGraph" 87 Lib.Math.max.name ∈ TA := by decide +kernel
theorem wm_max_s : Cond.static Lib.Math.max.name ∈ TA := by decide +kernel
theorem wm_max_c : Cond.code Lib.Math.max.name Lib.Math.max.code 2 (some .int) ∈ TA := by decide +kernel
theorem wm_min_l : Cond.methodLink "GameGraph" 121 Lib.Math.min.name ∈ TA := by decide +kernel
theorem wm_min_s : Cond.static Lib.Math.min.name ∈ TA := by decide +kernel
theorem wm_min_c : Cond.code Lib.Math.min.name Lib.Math.min.code 2 (some .int) ∈ TA := by decide +kernel
theorem wm_z : Cond.initialized "java/lang/Math" ∈ TA := by decide +kernel
theorem wown_IA : ∀ a ∈ Bundle.ownAtoms0 "GameGraph" 34 "java/lang/IllegalArgumentException" ["java/lang/RuntimeException", "java/lang/Exception"], a ∈ TA ∨ a ∈ SW := by decide +kernel
theorem wown_IO : ∀ a ∈ Bundle.ownAtoms0 "GameGraph" 37 "java/lang/IndexOutOfBoundsException" ["java/lang/RuntimeException", "java/lang/Exception"], a ∈ TA ∨ a ∈ SW := by decide +kernel
theorem wown_IS : ∀ a ∈ Bundle.ownAtoms0 "GameGraph" 130 "java/lang/IllegalStateException" ["java/lang/RuntimeException", "java/lang/Exception"], a ∈ TA ∨ a ∈ SW := by decide +kernel
end
section
-- ===== printed by gen/names.py: decode rows =====
theorem d_G_init_0 : decode b_G_init 0 = .ok (.aload_n 0, 1) := by decide +kernel
theorem d_G_init_1 : decode b_G_init 1 = .ok (.invokespecial 1, 3) := by decide +kernel
theorem d_G_init_4 : decode b_G_init 4 = .ok (.aload_n 0, 1) := by decide +kernel
theorem d_G_init_5 : decode b_G_init 5 = .ok (.bipush 60, 2) := by decide +kernel
theorem d_G_init_7 : decode b_G_init 7 = .ok (.anewarray 9, 3) := by decide +kernel
theorem d_G_init_10 : decode b_G_init 10 = .ok (.putfield 11, 3) := by decide +kernel
theorem d_G_init_13 : decode b_G_init 13 = .ok (.aload_n 0, 1) := by decide +kernel
theorem d_G_init_14 : decode b_G_init 14 = .ok (.iconst 1, 1) := by decide +kernel
theorem d_G_init_15 : decode b_G_init 15 = .ok (.putfield 15, 3) := by decide +kernel
theorem d_G_init_18 : decode b_G_init 18 = .ok (.aload_n 0, 1) := by decide +kernel
theorem d_G_init_19 : decode b_G_init 19 = .ok (.bipush 60, 2) := by decide +kernel
theorem d_G_init_21 : decode b_G_init 21 = .ok (.newarray .int, 2) := by decide +kernel
theorem d_G_init_23 : decode b_G_init 23 = .ok (.putfield 19, 3) := by decide +kernel
theorem d_G_init_26 : decode b_G_init 26 = .ok (.aload_n 0, 1) := by decide +kernel
theorem d_G_init_27 : decode b_G_init 27 = .ok (.bipush 60, 2) := by decide +kernel
theorem d_G_init_29 : decode b_G_init 29 = .ok (.newarray .boolean, 2) := by decide +kernel
theorem d_G_init_31 : decode b_G_init 31 = .ok (.putfield 23, 3) := by decide +kernel
theorem d_G_init_34 : decode b_G_init 34 = .ok (.iconst 0, 1) := by decide +kernel
theorem d_G_init_35 : decode b_G_init 35 = .ok (.istore_n 1, 1) := by decide +kernel
theorem d_G_init_36 : decode b_G_init 36 = .ok (.iload_n 1, 1) := by decide +kernel
theorem d_G_init_37 : decode b_G_init 37 = .ok (.bipush 60, 2) := by decide +kernel
theorem d_G_init_39 : decode b_G_init 39 = .ok (.if_icmp .ge 35, 3) := by decide +kernel
theorem d_G_init_42 : decode b_G_init 42 = .ok (.aload_n 0, 1) := by decide +kernel
theorem d_G_init_43 : decode b_G_init 43 = .ok (.getfield 11, 3) := by decide +kernel
theorem d_G_init_46 : decode b_G_init 46 = .ok (.iload_n 1, 1) := by decide +kernel
theorem d_G_init_47 : decode b_G_init 47 = .ok (.new 9, 3) := by decide +kernel
theorem d_G_init_50 : decode b_G_init 50 = .ok (.dup, 1) := by decide +kernel
theorem d_G_init_51 : decode b_G_init 51 = .ok (.invokespecial 27, 3) := by decide +kernel
theorem d_G_init_54 : decode b_G_init 54 = .ok (.aastore, 1) := by decide +kernel
theorem d_G_init_55 : decode b_G_init 55 = .ok (.aload_n 0, 1) := by decide +kernel
theorem d_G_init_56 : decode b_G_init 56 = .ok (.getfield 11, 3) := by decide +kernel
theorem d_G_init_59 : decode b_G_init 59 = .ok (.iload_n 1, 1) := by decide +kernel
theorem d_G_init_60 : decode b_G_init 60 = .ok (.aaload, 1) := by decide +kernel
theorem d_G_init_61 : decode b_G_init 61 = .ok (.bipush 50, 2) := by decide +kernel
theorem d_G_init_63 : decode b_G_init 63 = .ok (.bipush 50, 2) := by decide +kernel
theorem d_G_init_65 : decode b_G_init 65 = .ok (.invokevirtual 28, 3) := by decide +kernel
theorem d_G_init_68 : decode b_G_init 68 = .ok (.iinc 1 1, 3) := by decide +kernel
theorem d_G_init_71 : decode b_G_init 71 = .ok (.goto (-35), 3) := by decide +kernel
theorem d_G_init_74 : decode b_G_init 74 = .ok (.return_, 1) := by decide +kernel
theorem d_S_init_0 : decode b_S_init 0 = .ok (.aload_n 0, 1) := by decide +kernel
theorem d_S_init_1 : decode b_S_init 1 = .ok (.invokespecial 3, 3) := by decide +kernel
theorem d_S_init_4 : decode b_S_init 4 = .ok (.aload_n 0, 1) := by decide +kernel
theorem d_S_init_5 : decode b_S_init 5 = .ok (.bipush 12, 2) := by decide +kernel
theorem d_S_init_7 : decode b_S_init 7 = .ok (.newarray .int, 2) := by decide +kernel
theorem d_S_init_9 : decode b_S_init 9 = .ok (.putfield 9, 3) := by decide +kernel
theorem d_S_init_12 : decode b_S_init 12 = .ok (.return_, 1) := by decide +kernel
theorem d_S_end_0 : decode b_S_end 0 = .ok (.aload_n 0, 1) := by decide +kernel
theorem d_S_end_1 : decode b_S_end 1 = .ok (.iconst 1, 1) := by decide +kernel
theorem d_S_end_2 : decode b_S_end 2 = .ok (.putfield 15, 3) := by decide +kernel
theorem d_S_end_5 : decode b_S_end 5 = .ok (.aload_n 0, 1) := by decide +kernel
theorem d_S_end_6 : decode b_S_end 6 = .ok (.iload_n 1, 1) := by decide +kernel
theorem d_S_end_7 : decode b_S_end 7 = .ok (.putfield 19, 3) := by decide +kernel
theorem d_S_end_10 : decode b_S_end 10 = .ok (.aload_n 0, 1) := by decide +kernel
theorem d_S_end_11 : decode b_S_end 11 = .ok (.iload_n 2, 1) := by decide +kernel
theorem d_S_end_12 : decode b_S_end 12 = .ok (.putfield 23, 3) := by decide +kernel
theorem d_S_end_15 : decode b_S_end 15 = .ok (.aload_n 0, 1) := by decide +kernel
theorem d_S_end_16 : decode b_S_end 16 = .ok (.iconst 0, 1) := by decide +kernel
theorem d_S_end_17 : decode b_S_end 17 = .ok (.putfield 26, 3) := by decide +kernel
theorem d_S_end_20 : decode b_S_end 20 = .ok (.return_, 1) := by decide +kernel
theorem d_G_reached_0 : decode b_G_reached 0 = .ok (.aload_n 0, 1) := by decide +kernel
theorem d_G_reached_1 : decode b_G_reached 1 = .ok (.invokevirtual 112, 3) := by decide +kernel
theorem d_G_reached_4 : decode b_G_reached 4 = .ok (.aload_n 0, 1) := by decide +kernel
theorem d_G_reached_5 : decode b_G_reached 5 = .ok (.getfield 69, 3) := by decide +kernel
theorem d_G_reached_8 : decode b_G_reached 8 = .ok (.ireturn, 1) := by decide +kernel
theorem d_G_look_0 : decode b_G_look 0 = .ok (.aload_n 0, 1) := by decide +kernel
theorem d_G_look_1 : decode b_G_look 1 = .ok (.getfield 49, 3) := by decide +kernel
theorem d_G_look_4 : decode b_G_look 4 = .ok (.ifCond .eq 4, 3) := by decide +kernel
theorem d_G_look_7 : decode b_G_look 7 = .ok (.return_, 1) := by decide +kernel
theorem d_G_look_8 : decode b_G_look 8 = .ok (.aload_n 0, 1) := by decide +kernel
theorem d_G_look_9 : decode b_G_look 9 = .ok (.invokevirtual 93, 3) := by decide +kernel
theorem d_G_look_12 : decode b_G_look 12 = .ok (.aload_n 0, 1) := by decide +kernel
theorem d_G_look_13 : decode b_G_look 13 = .ok (.iconst 0, 1) := by decide +kernel
theorem d_G_look_14 : decode b_G_look 14 = .ok (.putfield 96, 3) := by decide +kernel
theorem d_G_look_17 : decode b_G_look 17 = .ok (.aload_n 0, 1) := by decide +kernel
theorem d_G_look_18 : decode b_G_look 18 = .ok (.iconst (-1), 1) := by decide +kernel
theorem d_G_look_19 : decode b_G_look 19 = .ok (.putfield 99, 3) := by decide +kernel
theorem d_G_look_22 : decode b_G_look 22 = .ok (.iconst 0, 1) := by decide +kernel
theorem d_G_look_23 : decode b_G_look 23 = .ok (.istore_n 1, 1) := by decide +kernel
theorem d_G_look_24 : decode b_G_look 24 = .ok (.iload_n 1, 1) := by decide +kernel
theorem d_G_look_25 : decode b_G_look 25 = .ok (.aload_n 0, 1) := by decide +kernel
theorem d_G_look_26 : decode b_G_look 26 = .ok (.getfield 15, 3) := by decide +kernel
theorem d_G_look_29 : decode b_G_look 29 = .ok (.if_icmp .ge 61, 3) := by decide +kernel
theorem d_G_look_32 : decode b_G_look 32 = .ok (.aload_n 0, 1) := by decide +kernel
theorem d_G_look_33 : decode b_G_look 33 = .ok (.getfield 96, 3) := by decide +kernel
theorem d_G_look_36 : decode b_G_look 36 = .ok (.ifCond .ne 54, 3) := by decide +kernel
theorem d_G_look_39 : decode b_G_look 39 = .ok (.aload_n 0, 1) := by decide +kernel
theorem d_G_look_40 : decode b_G_look 40 = .ok (.aload_n 0, 1) := by decide +kernel
theorem d_G_look_41 : decode b_G_look 41 = .ok (.getfield 11, 3) := by decide +kernel
theorem d_G_look_44 : decode b_G_look 44 = .ok (.iload_n 1, 1) := by decide +kernel
theorem d_G_look_45 : decode b_G_look 45 = .ok (.aaload, 1) := by decide +kernel
theorem d_G_look_46 : decode b_G_look 46 = .ok (.getfield 66, 3) := by decide +kernel
theorem d_G_look_49 : decode b_G_look 49 = .ok (.ifCond .eq 15, 3) := by decide +kernel
theorem d_G_look_52 : decode b_G_look 52 = .ok (.aload_n 0, 1) := by decide +kernel
theorem d_G_look_53 : decode b_G_look 53 = .ok (.getfield 11, 3) := by decide +kernel
theorem d_G_look_56 : decode b_G_look 56 = .ok (.iload_n 1, 1) := by decide +kernel
theorem d_G_look_57 : decode b_G_look 57 = .ok (.aaload, 1) := by decide +kernel
theorem d_G_look_58 : decode b_G_look 58 = .ok (.invokevirtual 102, 3) := by decide +kernel
theorem d_G_look_61 : decode b_G_look 61 = .ok (.goto 4, 3) := by decide +kernel
theorem d_G_look_64 : decode b_G_look 64 = .ok (.iconst 0, 1) := by decide +kernel
theorem d_G_look_65 : decode b_G_look 65 = .ok (.putfield 96, 3) := by decide +kernel
theorem d_G_look_68 : decode b_G_look 68 = .ok (.aload_n 0, 1) := by decide +kernel
theorem d_G_look_69 : decode b_G_look 69 = .ok (.aload_n 0, 1) := by decide +kernel
theorem d_G_look_70 : decode b_G_look 70 = .ok (.getfield 96, 3) := by decide +kernel
theorem d_G_look_73 : decode b_G_look 73 = .ok (.ifCond .ne 7, 3) := by decide +kernel
theorem d_G_look_76 : decode b_G_look 76 = .ok (.iconst (-1), 1) := by decide +kernel
theorem d_G_look_77 : decode b_G_look 77 = .ok (.goto 4, 3) := by decide +kernel
theorem d_G_look_80 : decode b_G_look 80 = .ok (.iload_n 1, 1) := by decide +kernel
theorem d_G_look_81 : decode b_G_look 81 = .ok (.putfield 99, 3) := by decide +kernel
theorem d_G_look_84 : decode b_G_look 84 = .ok (.iinc 1 1, 3) := by decide +kernel
theorem d_G_look_87 : decode b_G_look 87 = .ok (.goto (-63), 3) := by decide +kernel
theorem d_G_look_90 : decode b_G_look 90 = .ok (.iconst 0, 1) := by decide +kernel
theorem d_G_look_91 : decode b_G_look 91 = .ok (.istore_n 1, 1) := by decide +kernel
theorem d_G_look_92 : decode b_G_look 92 = .ok (.iload_n 1, 1) := by decide +kernel
theorem d_G_look_93 : decode b_G_look 93 = .ok (.aload_n 0, 1) := by decide +kernel
theorem d_G_look_94 : decode b_G_look 94 = .ok (.getfield 15, 3) := by decide +kernel
theorem d_G_look_97 : decode b_G_look 97 = .ok (.if_icmp .ge 62, 3) := by decide +kernel
theorem d_G_look_100 : decode b_G_look 100 = .ok (.aload_n 0, 1) := by decide +kernel
theorem d_G_look_101 : decode b_G_look 101 = .ok (.getfield 96, 3) := by decide +kernel
theorem d_G_look_104 : decode b_G_look 104 = .ok (.ifCond .ne 55, 3) := by decide +kernel
theorem d_G_look_107 : decode b_G_look 107 = .ok (.aload_n 0, 1) := by decide +kernel
theorem d_G_look_108 : decode b_G_look 108 = .ok (.aload_n 0, 1) := by decide +kernel
theorem d_G_look_109 : decode b_G_look 109 = .ok (.getfield 11, 3) := by decide +kernel
theorem d_G_look_112 : decode b_G_look 112 = .ok (.iload_n 1, 1) := by decide +kernel
theorem d_G_look_113 : decode b_G_look 113 = .ok (.aaload, 1) := by decide +kernel
theorem d_G_look_114 : decode b_G_look 114 = .ok (.getfield 66, 3) := by decide +kernel
theorem d_G_look_117 : decode b_G_look 117 = .ok (.ifCond .eq 16, 3) := by decide +kernel
theorem d_G_look_120 : decode b_G_look 120 = .ok (.aload_n 0, 1) := by decide +kernel
theorem d_G_look_121 : decode b_G_look 121 = .ok (.iload_n 1, 1) := by decide +kernel
theorem d_G_look_122 : decode b_G_look 122 = .ok (.invokevirtual 105, 3) := by decide +kernel
theorem d_G_look_125 : decode b_G_look 125 = .ok (.ifCond .eq 8, 3) := by decide +kernel
theorem d_G_look_128 : decode b_G_look 128 = .ok (.bipush 6, 2) := by decide +kernel
theorem d_G_look_130 : decode b_G_look 130 = .ok (.goto 4, 3) := by decide +kernel
theorem d_G_look_133 : decode b_G_look 133 = .ok (.iconst 0, 1) := by decide +kernel
theorem d_G_look_134 : decode b_G_look 134 = .ok (.putfield 96, 3) := by decide +kernel
theorem d_G_look_137 : decode b_G_look 137 = .ok (.aload_n 0, 1) := by decide +kernel
theorem d_G_look_138 : decode b_G_look 138 = .ok (.aload_n 0, 1) := by decide +kernel
theorem d_G_look_139 : decode b_G_look 139 = .ok (.getfield 96, 3) := by decide +kernel
theorem d_G_look_142 : decode b_G_look 142 = .ok (.ifCond .ne 7, 3) := by decide +kernel
theorem d_G_look_145 : decode b_G_look 145 = .ok (.iconst (-1), 1) := by decide +kernel
theorem d_G_look_146 : decode b_G_look 146 = .ok (.goto 4, 3) := by decide +kernel
theorem d_G_look_149 : decode b_G_look 149 = .ok (.iload_n 1, 1) := by decide +kernel
theorem d_G_look_150 : decode b_G_look 150 = .ok (.putfield 99, 3) := by decide +kernel
theorem d_G_look_153 : decode b_G_look 153 = .ok (.iinc 1 1, 3) := by decide +kernel
theorem d_G_look_156 : decode b_G_look 156 = .ok (.goto (-64), 3) := by decide +kernel
theorem d_G_look_159 : decode b_G_look 159 = .ok (.aload_n 0, 1) := by decide +kernel
theorem d_G_look_160 : decode b_G_look 160 = .ok (.getfield 96, 3) := by decide +kernel
theorem d_G_look_163 : decode b_G_look 163 = .ok (.ifCond .ne 7, 3) := by decide +kernel
theorem d_G_look_166 : decode b_G_look 166 = .ok (.aload_n 0, 1) := by decide +kernel
theorem d_G_look_167 : decode b_G_look 167 = .ok (.invokevirtual 109, 3) := by decide +kernel
theorem d_G_look_170 : decode b_G_look 170 = .ok (.aload_n 0, 1) := by decide +kernel
theorem d_G_look_171 : decode b_G_look 171 = .ok (.iconst 1, 1) := by decide +kernel
theorem d_G_look_172 : decode b_G_look 172 = .ok (.putfield 49, 3) := by decide +kernel
theorem d_G_look_175 : decode b_G_look 175 = .ok (.return_, 1) := by decide +kernel
theorem d_G_reach_0 : decode b_G_reach 0 = .ok (.iconst 0, 1) := by decide +kernel
theorem d_G_reach_1 : decode b_G_reach 1 = .ok (.istore_n 1, 1) := by decide +kernel
theorem d_G_reach_2 : decode b_G_reach 2 = .ok (.iload_n 1, 1) := by decide +kernel
theorem d_G_reach_3 : decode b_G_reach 3 = .ok (.aload_n 0, 1) := by decide +kernel
theorem d_G_reach_4 : decode b_G_reach 4 = .ok (.getfield 15, 3) := by decide +kernel
theorem d_G_reach_7 : decode b_G_reach 7 = .ok (.if_icmp .ge 27, 3) := by decide +kernel
theorem d_G_reach_10 : decode b_G_reach 10 = .ok (.aload_n 0, 1) := by decide +kernel
theorem d_G_reach_11 : decode b_G_reach 11 = .ok (.getfield 11, 3) := by decide +kernel
theorem d_G_reach_14 : decode b_G_reach 14 = .ok (.iload_n 1, 1) := by decide +kernel
theorem d_G_reach_15 : decode b_G_reach 15 = .ok (.aaload, 1) := by decide +kernel
theorem d_G_reach_16 : decode b_G_reach 16 = .ok (.iload_n 1, 1) := by decide +kernel
theorem d_G_reach_17 : decode b_G_reach 17 = .ok (.ifCond .ne 7, 3) := by decide +kernel
theorem d_G_reach_20 : decode b_G_reach 20 = .ok (.iconst 1, 1) := by decide +kernel
theorem d_G_reach_21 : decode b_G_reach 21 = .ok (.goto 4, 3) := by decide +kernel
theorem d_G_reach_24 : decode b_G_reach 24 = .ok (.iconst 0, 1) := by decide +kernel
theorem d_G_reach_25 : decode b_G_reach 25 = .ok (.putfield 66, 3) := by decide +kernel
theorem d_G_reach_28 : decode b_G_reach 28 = .ok (.iinc 1 1, 3) := by decide +kernel
theorem d_G_reach_31 : decode b_G_reach 31 = .ok (.goto (-29), 3) := by decide +kernel
theorem d_G_reach_34 : decode b_G_reach 34 = .ok (.aload_n 0, 1) := by decide +kernel
theorem d_G_reach_35 : decode b_G_reach 35 = .ok (.getfield 19, 3) := by decide +kernel
theorem d_G_reach_38 : decode b_G_reach 38 = .ok (.iconst 0, 1) := by decide +kernel
theorem d_G_reach_39 : decode b_G_reach 39 = .ok (.iconst 0, 1) := by decide +kernel
theorem d_G_reach_40 : decode b_G_reach 40 = .ok (.iastore, 1) := by decide +kernel
theorem d_G_reach_41 : decode b_G_reach 41 = .ok (.aload_n 0, 1) := by decide +kernel
theorem d_G_reach_42 : decode b_G_reach 42 = .ok (.iconst 1, 1) := by decide +kernel
theorem d_G_reach_43 : decode b_G_reach 43 = .ok (.putfield 69, 3) := by decide +kernel
theorem d_G_reach_46 : decode b_G_reach 46 = .ok (.iconst 0, 1) := by decide +kernel
theorem d_G_reach_47 : decode b_G_reach 47 = .ok (.istore_n 1, 1) := by decide +kernel
theorem d_G_reach_48 : decode b_G_reach 48 = .ok (.iload_n 1, 1) := by decide +kernel
theorem d_G_reach_49 : decode b_G_reach 49 = .ok (.aload_n 0, 1) := by decide +kernel
theorem d_G_reach_50 : decode b_G_reach 50 = .ok (.getfield 69, 3) := by decide +kernel
theorem d_G_reach_53 : decode b_G_reach 53 = .ok (.if_icmp .ge 89, 3) := by decide +kernel
theorem d_G_reach_56 : decode b_G_reach 56 = .ok (.aload_n 0, 1) := by decide +kernel
theorem d_G_reach_57 : decode b_G_reach 57 = .ok (.getfield 11, 3) := by decide +kernel
theorem d_G_reach_60 : decode b_G_reach 60 = .ok (.aload_n 0, 1) := by decide +kernel
theorem d_G_reach_61 : decode b_G_reach 61 = .ok (.getfield 19, 3) := by decide +kernel
theorem d_G_reach_64 : decode b_G_reach 64 = .ok (.iload_n 1, 1) := by decide +kernel
theorem d_G_reach_65 : decode b_G_reach 65 = .ok (.iaload, 1) := by decide +kernel
theorem d_G_reach_66 : decode b_G_reach 66 = .ok (.aaload, 1) := by decide +kernel
theorem d_G_reach_67 : decode b_G_reach 67 = .ok (.astore_n 2, 1) := by decide +kernel
theorem d_G_reach_68 : decode b_G_reach 68 = .ok (.iconst 0, 1) := by decide +kernel
theorem d_G_reach_69 : decode b_G_reach 69 = .ok (.istore_n 3, 1) := by decide +kernel
theorem d_G_reach_70 : decode b_G_reach 70 = .ok (.iload_n 3, 1) := by decide +kernel
theorem d_G_reach_71 : decode b_G_reach 71 = .ok (.aload_n 2, 1) := by decide +kernel
theorem d_G_reach_72 : decode b_G_reach 72 = .ok (.getfield 60, 3) := by decide +kernel
theorem d_G_reach_75 : decode b_G_reach 75 = .ok (.if_icmp .ge 61, 3) := by decide +kernel
theorem d_G_reach_78 : decode b_G_reach 78 = .ok (.aload_n 0, 1) := by decide +kernel
theorem d_G_reach_79 : decode b_G_reach 79 = .ok (.getfield 11, 3) := by decide +kernel
theorem d_G_reach_82 : decode b_G_reach 82 = .ok (.aload_n 2, 1) := by decide +kernel
theorem d_G_reach_83 : decode b_G_reach 83 = .ok (.getfield 63, 3) := by decide +kernel
theorem d_G_reach_86 : decode b_G_reach 86 = .ok (.iload_n 3, 1) := by decide +kernel
theorem d_G_reach_87 : decode b_G_reach 87 = .ok (.iaload, 1) := by decide +kernel
theorem d_G_reach_88 : decode b_G_reach 88 = .ok (.aaload, 1) := by decide +kernel
theorem d_G_reach_89 : decode b_G_reach 89 = .ok (.astore 4, 2) := by decide +kernel
theorem d_G_reach_91 : decode b_G_reach 91 = .ok (.aload 4, 2) := by decide +kernel
theorem d_G_reach_93 : decode b_G_reach 93 = .ok (.getfield 66, 3) := by decide +kernel
theorem d_G_reach_96 : decode b_G_reach 96 = .ok (.ifCond .ne 34, 3) := by decide +kernel
theorem d_G_reach_99 : decode b_G_reach 99 = .ok (.aload 4, 2) := by decide +kernel
theorem d_G_reach_101 : decode b_G_reach 101 = .ok (.iconst 1, 1) := by decide +kernel
theorem d_G_reach_102 : decode b_G_reach 102 = .ok (.putfield 66, 3) := by decide +kernel
theorem d_G_reach_105 : decode b_G_reach 105 = .ok (.aload_n 0, 1) := by decide +kernel
theorem d_G_reach_106 : decode b_G_reach 106 = .ok (.getfield 19, 3) := by decide +kernel
theorem d_G_reach_109 : decode b_G_reach 109 = .ok (.aload_n 0, 1) := by decide +kernel
theorem d_G_reach_110 : decode b_G_reach 110 = .ok (.getfield 69, 3) := by decide +kernel
theorem d_G_reach_113 : decode b_G_reach 113 = .ok (.aload_n 2, 1) := by decide +kernel
theorem d_G_reach_114 : decode b_G_reach 114 = .ok (.getfield 63, 3) := by decide +kernel
theorem d_G_reach_117 : decode b_G_reach 117 = .ok (.iload_n 3, 1) := by decide +kernel
theorem d_G_reach_118 : decode b_G_reach 118 = .ok (.iaload, 1) := by decide +kernel
theorem d_G_reach_119 : decode b_G_reach 119 = .ok (.iastore, 1) := by decide +kernel
theorem d_G_reach_120 : decode b_G_reach 120 = .ok (.aload_n 0, 1) := by decide +kernel
theorem d_G_reach_121 : decode b_G_reach 121 = .ok (.dup, 1) := by decide +kernel
theorem d_G_reach_122 : decode b_G_reach 122 = .ok (.getfield 69, 3) := by decide +kernel
theorem d_G_reach_125 : decode b_G_reach 125 = .ok (.iconst 1, 1) := by decide +kernel
theorem d_G_reach_126 : decode b_G_reach 126 = .ok (.iadd, 1) := by decide +kernel
theorem d_G_reach_127 : decode b_G_reach 127 = .ok (.putfield 69, 3) := by decide +kernel
theorem d_G_reach_130 : decode b_G_reach 130 = .ok (.iinc 3 1, 3) := by decide +kernel
theorem d_G_reach_133 : decode b_G_reach 133 = .ok (.goto (-63), 3) := by decide +kernel
theorem d_G_reach_136 : decode b_G_reach 136 = .ok (.iinc 1 1, 3) := by decide +kernel
theorem d_G_reach_139 : decode b_G_reach 139 = .ok (.goto (-91), 3) := by decide +kernel
theorem d_G_reach_142 : decode b_G_reach 142 = .ok (.return_, 1) := by decide +kernel
theorem d_S_defect_0 : decode b_S_defect 0 = .ok (.aload_n 0, 1) := by decide +kernel
theorem d_S_defect_1 : decode b_S_defect 1 = .ok (.getfield 15, 3) := by decide +kernel
theorem d_S_defect_4 : decode b_S_defect 4 = .ok (.ifCond .eq 41, 3) := by decide +kernel
theorem d_S_defect_7 : decode b_S_defect 7 = .ok (.aload_n 0, 1) := by decide +kernel
theorem d_S_defect_8 : decode b_S_defect 8 = .ok (.getfield 19, 3) := by decide +kernel
theorem d_S_defect_11 : decode b_S_defect 11 = .ok (.ifCond .lt 10, 3) := by decide +kernel
theorem d_S_defect_14 : decode b_S_defect 14 = .ok (.aload_n 0, 1) := by decide +kernel
theorem d_S_defect_15 : decode b_S_defect 15 = .ok (.getfield 23, 3) := by decide +kernel
theorem d_S_defect_18 : decode b_S_defect 18 = .ok (.ifCond .ge 7, 3) := by decide +kernel
theorem d_S_defect_21 : decode b_S_defect 21 = .ok (.iconst 4, 1) := by decide +kernel
theorem d_S_defect_22 : decode b_S_defect 22 = .ok (.goto 22, 3) := by decide +kernel
theorem d_S_defect_25 : decode b_S_defect 25 = .ok (.aload_n 0, 1) := by decide +kernel
theorem d_S_defect_26 : decode b_S_defect 26 = .ok (.getfield 19, 3) := by decide +kernel
theorem d_S_defect_29 : decode b_S_defect 29 = .ok (.aload_n 0, 1) := by decide +kernel
theorem d_S_defect_30 : decode b_S_defect 30 = .ok (.getfield 23, 3) := by decide +kernel
theorem d_S_defect_33 : decode b_S_defect 33 = .ok (.iadd, 1) := by decide +kernel
theorem d_S_defect_34 : decode b_S_defect 34 = .ok (.bipush 100, 2) := by decide +kernel
theorem d_S_defect_36 : decode b_S_defect 36 = .ok (.if_icmp .eq 7, 3) := by decide +kernel
theorem d_S_defect_39 : decode b_S_defect 39 = .ok (.iconst 5, 1) := by decide +kernel
theorem d_S_defect_40 : decode b_S_defect 40 = .ok (.goto 4, 3) := by decide +kernel
theorem d_S_defect_43 : decode b_S_defect 43 = .ok (.iconst 0, 1) := by decide +kernel
theorem d_S_defect_44 : decode b_S_defect 44 = .ok (.ireturn, 1) := by decide +kernel
theorem d_S_defect_45 : decode b_S_defect 45 = .ok (.aload_n 0, 1) := by decide +kernel
theorem d_S_defect_46 : decode b_S_defect 46 = .ok (.getfield 26, 3) := by decide +kernel
theorem d_S_defect_49 : decode b_S_defect 49 = .ok (.ifCond .ne 7, 3) := by decide +kernel
theorem d_S_defect_52 : decode b_S_defect 52 = .ok (.iconst 2, 1) := by decide +kernel
theorem d_S_defect_53 : decode b_S_defect 53 = .ok (.goto 24, 3) := by decide +kernel
theorem d_S_defect_56 : decode b_S_defect 56 = .ok (.aload_n 0, 1) := by decide +kernel
theorem d_S_defect_57 : decode b_S_defect 57 = .ok (.getfield 19, 3) := by decide +kernel
theorem d_S_defect_60 : decode b_S_defect 60 = .ok (.iconst 1, 1) := by decide +kernel
theorem d_S_defect_61 : decode b_S_defect 61 = .ok (.if_icmp .le 15, 3) := by decide +kernel
theorem d_S_defect_64 : decode b_S_defect 64 = .ok (.aload_n 0, 1) := by decide +kernel
theorem d_S_defect_65 : decode b_S_defect 65 = .ok (.getfield 23, 3) := by decide +kernel
theorem d_S_defect_68 : decode b_S_defect 68 = .ok (.iconst 1, 1) := by decide +kernel
theorem d_S_defect_69 : decode b_S_defect 69 = .ok (.if_icmp .le 7, 3) := by decide +kernel
theorem d_S_defect_72 : decode b_S_defect 72 = .ok (.iconst 3, 1) := by decide +kernel
theorem d_S_defect_73 : decode b_S_defect 73 = .ok (.goto 4, 3) := by decide +kernel
theorem d_S_defect_76 : decode b_S_defect 76 = .ok (.iconst 0, 1) := by decide +kernel
theorem d_S_defect_77 : decode b_S_defect 77 = .ok (.ireturn, 1) := by decide +kernel
theorem d_G_comesBack_0 : decode b_G_comesBack 0 = .ok (.iconst 0, 1) := by decide +kernel
theorem d_G_comesBack_1 : decode b_G_comesBack 1 = .ok (.istore_n 2, 1) := by decide +kernel
theorem d_G_comesBack_2 : decode b_G_comesBack 2 = .ok (.iload_n 2, 1) := by decide +kernel
theorem d_G_comesBack_3 : decode b_G_comesBack 3 = .ok (.bipush 60, 2) := by decide +kernel
theorem d_G_comesBack_5 : decode b_G_comesBack 5 = .ok (.if_icmp .ge 16, 3) := by decide +kernel
theorem d_G_comesBack_8 : decode b_G_comesBack 8 = .ok (.aload_n 0, 1) := by decide +kernel
theorem d_G_comesBack_9 : decode b_G_comesBack 9 = .ok (.getfield 23, 3) := by decide +kernel
theorem d_G_comesBack_12 : decode b_G_comesBack 12 = .ok (.iload_n 2, 1) := by decide +kernel
theorem d_G_comesBack_13 : decode b_G_comesBack 13 = .ok (.iconst 0, 1) := by decide +kernel
theorem d_G_comesBack_14 : decode b_G_comesBack 14 = .ok (.bastore, 1) := by decide +kernel
theorem d_G_comesBack_15 : decode b_G_comesBack 15 = .ok (.iinc 2 1, 3) := by decide +kernel
theorem d_G_comesBack_18 : decode b_G_comesBack 18 = .ok (.goto (-16), 3) := by decide +kernel
theorem d_G_comesBack_21 : decode b_G_comesBack 21 = .ok (.iconst 1, 1) := by decide +kernel
theorem d_G_comesBack_22 : decode b_G_comesBack 22 = .ok (.istore_n 2, 1) := by decide +kernel
theorem d_G_comesBack_23 : decode b_G_comesBack 23 = .ok (.aload_n 0, 1) := by decide +kernel
theorem d_G_comesBack_24 : decode b_G_comesBack 24 = .ok (.getfield 19, 3) := by decide +kernel
theorem d_G_comesBack_27 : decode b_G_comesBack 27 = .ok (.iconst 0, 1) := by decide +kernel
theorem d_G_comesBack_28 : decode b_G_comesBack 28 = .ok (.iload_n 1, 1) := by decide +kernel
theorem d_G_comesBack_29 : decode b_G_comesBack 29 = .ok (.iastore, 1) := by decide +kernel
theorem d_G_comesBack_30 : decode b_G_comesBack 30 = .ok (.iconst 0, 1) := by decide +kernel
theorem d_G_comesBack_31 : decode b_G_comesBack 31 = .ok (.istore_n 3, 1) := by decide +kernel
theorem d_G_comesBack_32 : decode b_G_comesBack 32 = .ok (.iload_n 3, 1) := by decide +kernel
theorem d_G_comesBack_33 : decode b_G_comesBack 33 = .ok (.iload_n 2, 1) := by decide +kernel
theorem d_G_comesBack_34 : decode b_G_comesBack 34 = .ok (.if_icmp .ge 88, 3) := by decide +kernel
theorem d_G_comesBack_37 : decode b_G_comesBack 37 = .ok (.aload_n 0, 1) := by decide +kernel
theorem d_G_comesBack_38 : decode b_G_comesBack 38 = .ok (.getfield 11, 3) := by decide +kernel
theorem d_G_comesBack_41 : decode b_G_comesBack 41 = .ok (.aload_n 0, 1) := by decide +kernel
theorem d_G_comesBack_42 : decode b_G_comesBack 42 = .ok (.getfield 19, 3) := by decide +kernel
theorem d_G_comesBack_45 : decode b_G_comesBack 45 = .ok (.iload_n 3, 1) := by decide +kernel
theorem d_G_comesBack_46 : decode b_G_comesBack 46 = .ok (.iaload, 1) := by decide +kernel
theorem d_G_comesBack_47 : decode b_G_comesBack 47 = .ok (.aaload, 1) := by decide +kernel
theorem d_G_comesBack_48 : decode b_G_comesBack 48 = .ok (.astore 4, 2) := by decide +kernel
theorem d_G_comesBack_50 : decode b_G_comesBack 50 = .ok (.iconst 0, 1) := by decide +kernel
theorem d_G_comesBack_51 : decode b_G_comesBack 51 = .ok (.istore 5, 2) := by decide +kernel
theorem d_G_comesBack_53 : decode b_G_comesBack 53 = .ok (.iload 5, 2) := by decide +kernel
theorem d_G_comesBack_55 : decode b_G_comesBack 55 = .ok (.aload 4, 2) := by decide +kernel
theorem d_G_comesBack_57 : decode b_G_comesBack 57 = .ok (.getfield 60, 3) := by decide +kernel
theorem d_G_comesBack_60 : decode b_G_comesBack 60 = .ok (.if_icmp .ge 56, 3) := by decide +kernel
theorem d_G_comesBack_63 : decode b_G_comesBack 63 = .ok (.aload 4, 2) := by decide +kernel
theorem d_G_comesBack_65 : decode b_G_comesBack 65 = .ok (.getfield 63, 3) := by decide +kernel
theorem d_G_comesBack_68 : decode b_G_comesBack 68 = .ok (.iload 5, 2) := by decide +kernel
theorem d_G_comesBack_70 : decode b_G_comesBack 70 = .ok (.iaload, 1) := by decide +kernel
theorem d_G_comesBack_71 : decode b_G_comesBack 71 = .ok (.istore 6, 2) := by decide +kernel
theorem d_G_comesBack_73 : decode b_G_comesBack 73 = .ok (.iload 6, 2) := by decide +kernel
theorem d_G_comesBack_75 : decode b_G_comesBack 75 = .ok (.iload_n 1, 1) := by decide +kernel
theorem d_G_comesBack_76 : decode b_G_comesBack 76 = .ok (.if_icmp .ne 5, 3) := by decide +kernel
theorem d_G_comesBack_79 : decode b_G_comesBack 79 = .ok (.iconst 1, 1) := by decide +kernel
theorem d_G_comesBack_80 : decode b_G_comesBack 80 = .ok (.ireturn, 1) := by decide +kernel
theorem d_G_comesBack_81 : decode b_G_comesBack 81 = .ok (.aload_n 0, 1) := by decide +kernel
theorem d_G_comesBack_82 : decode b_G_comesBack 82 = .ok (.getfield 23, 3) := by decide +kernel
theorem d_G_comesBack_85 : decode b_G_comesBack 85 = .ok (.iload 6, 2) := by decide +kernel
theorem d_G_comesBack_87 : decode b_G_comesBack 87 = .ok (.baload, 1) := by decide +kernel
theorem d_G_comesBack_88 : decode b_G_comesBack 88 = .ok (.ifCond .ne 22, 3) := by decide +kernel
theorem d_G_comesBack_91 : decode b_G_comesBack 91 = .ok (.aload_n 0, 1) := by decide +kernel
theorem d_G_comesBack_92 : decode b_G_comesBack 92 = .ok (.getfield 23, 3) := by decide +kernel
theorem d_G_comesBack_95 : decode b_G_comesBack 95 = .ok (.iload 6, 2) := by decide +kernel
theorem d_G_comesBack_97 : decode b_G_comesBack 97 = .ok (.iconst 1, 1) := by decide +kernel
theorem d_G_comesBack_98 : decode b_G_comesBack 98 = .ok (.bastore, 1) := by decide +kernel
theorem d_G_comesBack_99 : decode b_G_comesBack 99 = .ok (.aload_n 0, 1) := by decide +kernel
theorem d_G_comesBack_100 : decode b_G_comesBack 100 = .ok (.getfield 19, 3) := by decide +kernel
theorem d_G_comesBack_103 : decode b_G_comesBack 103 = .ok (.iload_n 2, 1) := by decide +kernel
theorem d_G_comesBack_104 : decode b_G_comesBack 104 = .ok (.iload 6, 2) := by decide +kernel
theorem d_G_comesBack_106 : decode b_G_comesBack 106 = .ok (.iastore, 1) := by decide +kernel
theorem d_G_comesBack_107 : decode b_G_comesBack 107 = .ok (.iinc 2 1, 3) := by decide +kernel
theorem d_G_comesBack_110 : decode b_G_comesBack 110 = .ok (.iinc 5 1, 3) := by decide +kernel
theorem d_G_comesBack_113 : decode b_G_comesBack 113 = .ok (.goto (-60), 3) := by decide +kernel
theorem d_G_comesBack_116 : decode b_G_comesBack 116 = .ok (.iinc 3 1, 3) := by decide +kernel
theorem d_G_comesBack_119 : decode b_G_comesBack 119 = .ok (.goto (-87), 3) := by decide +kernel
theorem d_G_comesBack_122 : decode b_G_comesBack 122 = .ok (.iconst 0, 1) := by decide +kernel
theorem d_G_comesBack_123 : decode b_G_comesBack 123 = .ok (.ireturn, 1) := by decide +kernel
theorem d_G_measure_0 : decode b_G_measure 0 = .ok (.iconst 0, 1) := by decide +kernel
theorem d_G_measure_1 : decode b_G_measure 1 = .ok (.istore_n 1, 1) := by decide +kernel
theorem d_G_measure_2 : decode b_G_measure 2 = .ok (.iload_n 1, 1) := by decide +kernel
theorem d_G_measure_3 : decode b_G_measure 3 = .ok (.aload_n 0, 1) := by decide +kernel
theorem d_G_measure_4 : decode b_G_measure 4 = .ok (.getfield 15, 3) := by decide +kernel
theorem d_G_measure_7 : decode b_G_measure 7 = .ok (.if_icmp .ge 60, 3) := by decide +kernel
theorem d_G_measure_10 : decode b_G_measure 10 = .ok (.aload_n 0, 1) := by decide +kernel
theorem d_G_measure_11 : decode b_G_measure 11 = .ok (.getfield 11, 3) := by decide +kernel
theorem d_G_measure_14 : decode b_G_measure 14 = .ok (.iload_n 1, 1) := by decide +kernel
theorem d_G_measure_15 : decode b_G_measure 15 = .ok (.aaload, 1) := by decide +kernel
theorem d_G_measure_16 : decode b_G_measure 16 = .ok (.iconst 0, 1) := by decide +kernel
theorem d_G_measure_17 : decode b_G_measure 17 = .ok (.putfield 72, 3) := by decide +kernel
theorem d_G_measure_20 : decode b_G_measure 20 = .ok (.aload_n 0, 1) := by decide +kernel
theorem d_G_measure_21 : decode b_G_measure 21 = .ok (.getfield 11, 3) := by decide +kernel
theorem d_G_measure_24 : decode b_G_measure 24 = .ok (.iload_n 1, 1) := by decide +kernel
theorem d_G_measure_25 : decode b_G_measure 25 = .ok (.aaload, 1) := by decide +kernel
theorem d_G_measure_26 : decode b_G_measure 26 = .ok (.iconst 0, 1) := by decide +kernel
theorem d_G_measure_27 : decode b_G_measure 27 = .ok (.putfield 75, 3) := by decide +kernel
theorem d_G_measure_30 : decode b_G_measure 30 = .ok (.aload_n 0, 1) := by decide +kernel
theorem d_G_measure_31 : decode b_G_measure 31 = .ok (.getfield 11, 3) := by decide +kernel
theorem d_G_measure_34 : decode b_G_measure 34 = .ok (.iload_n 1, 1) := by decide +kernel
theorem d_G_measure_35 : decode b_G_measure 35 = .ok (.aaload, 1) := by decide +kernel
theorem d_G_measure_36 : decode b_G_measure 36 = .ok (.iconst 0, 1) := by decide +kernel
theorem d_G_measure_37 : decode b_G_measure 37 = .ok (.putfield 78, 3) := by decide +kernel
theorem d_G_measure_40 : decode b_G_measure 40 = .ok (.aload_n 0, 1) := by decide +kernel
theorem d_G_measure_41 : decode b_G_measure 41 = .ok (.getfield 11, 3) := by decide +kernel
theorem d_G_measure_44 : decode b_G_measure 44 = .ok (.iload_n 1, 1) := by decide +kernel
theorem d_G_measure_45 : decode b_G_measure 45 = .ok (.aaload, 1) := by decide +kernel
theorem d_G_measure_46 : decode b_G_measure 46 = .ok (.iconst 0, 1) := by decide +kernel
theorem d_G_measure_47 : decode b_G_measure 47 = .ok (.putfield 81, 3) := by decide +kernel
theorem d_G_measure_50 : decode b_G_measure 50 = .ok (.aload_n 0, 1) := by decide +kernel
theorem d_G_measure_51 : decode b_G_measure 51 = .ok (.getfield 11, 3) := by decide +kernel
theorem d_G_measure_54 : decode b_G_measure 54 = .ok (.iload_n 1, 1) := by decide +kernel
theorem d_G_measure_55 : decode b_G_measure 55 = .ok (.aaload, 1) := by decide +kernel
theorem d_G_measure_56 : decode b_G_measure 56 = .ok (.bipush 100, 2) := by decide +kernel
theorem d_G_measure_58 : decode b_G_measure 58 = .ok (.putfield 84, 3) := by decide +kernel
theorem d_G_measure_61 : decode b_G_measure 61 = .ok (.iinc 1 1, 3) := by decide +kernel
theorem d_G_measure_64 : decode b_G_measure 64 = .ok (.goto (-62), 3) := by decide +kernel
theorem d_G_measure_67 : decode b_G_measure 67 = .ok (.iconst 1, 1) := by decide +kernel
theorem d_G_measure_68 : decode b_G_measure 68 = .ok (.istore_n 1, 1) := by decide +kernel
theorem d_G_measure_69 : decode b_G_measure 69 = .ok (.aload_n 0, 1) := by decide +kernel
theorem d_G_measure_70 : decode b_G_measure 70 = .ok (.getfield 19, 3) := by decide +kernel
theorem d_G_measure_73 : decode b_G_measure 73 = .ok (.iconst 0, 1) := by decide +kernel
theorem d_G_measure_74 : decode b_G_measure 74 = .ok (.iconst 0, 1) := by decide +kernel
theorem d_G_measure_75 : decode b_G_measure 75 = .ok (.iastore, 1) := by decide +kernel
theorem d_G_measure_76 : decode b_G_measure 76 = .ok (.iload_n 1, 1) := by decide +kernel
theorem d_G_measure_77 : decode b_G_measure 77 = .ok (.ifCond .le 112, 3) := by decide +kernel
theorem d_G_measure_80 : decode b_G_measure 80 = .ok (.aload_n 0, 1) := by decide +kernel
theorem d_G_measure_81 : decode b_G_measure 81 = .ok (.getfield 11, 3) := by decide +kernel
theorem d_G_measure_84 : decode b_G_measure 84 = .ok (.aload_n 0, 1) := by decide +kernel
theorem d_G_measure_85 : decode b_G_measure 85 = .ok (.getfield 19, 3) := by decide +kernel
theorem d_G_measure_88 : decode b_G_measure 88 = .ok (.iload_n 1, 1) := by decide +kernel
theorem d_G_measure_89 : decode b_G_measure 89 = .ok (.iconst 1, 1) := by decide +kernel
theorem d_G_measure_90 : decode b_G_measure 90 = .ok (.isub, 1) := by decide +kernel
theorem d_G_measure_91 : decode b_G_measure 91 = .ok (.iaload, 1) := by decide +kernel
theorem d_G_measure_92 : decode b_G_measure 92 = .ok (.aaload, 1) := by decide +kernel
theorem d_G_measure_93 : decode b_G_measure 93 = .ok (.astore_n 2, 1) := by decide +kernel
theorem d_G_measure_94 : decode b_G_measure 94 = .ok (.aload_n 2, 1) := by decide +kernel
theorem d_G_measure_95 : decode b_G_measure 95 = .ok (.getfield 72, 3) := by decide +kernel
theorem d_G_measure_98 : decode b_G_measure 98 = .ok (.aload_n 2, 1) := by decide +kernel
theorem d_G_measure_99 : decode b_G_measure 99 = .ok (.getfield 60, 3) := by decide +kernel
theorem d_G_measure_102 : decode b_G_measure 102 = .ok (.if_icmp .ne 14, 3) := by decide +kernel
theorem d_G_measure_105 : decode b_G_measure 105 = .ok (.aload_n 2, 1) := by decide +kernel
theorem d_G_measure_106 : decode b_G_measure 106 = .ok (.iconst 1, 1) := by decide +kernel
theorem d_G_measure_107 : decode b_G_measure 107 = .ok (.putfield 75, 3) := by decide +kernel
theorem d_G_measure_110 : decode b_G_measure 110 = .ok (.iinc 1 (-1), 3) := by decide +kernel
theorem d_G_measure_113 : decode b_G_measure 113 = .ok (.goto 73, 3) := by decide +kernel
theorem d_G_measure_116 : decode b_G_measure 116 = .ok (.aload_n 0, 1) := by decide +kernel
theorem d_G_measure_117 : decode b_G_measure 117 = .ok (.getfield 11, 3) := by decide +kernel
theorem d_G_measure_120 : decode b_G_measure 120 = .ok (.aload_n 2, 1) := by decide +kernel
theorem d_G_measure_121 : decode b_G_measure 121 = .ok (.getfield 63, 3) := by decide +kernel
theorem d_G_measure_124 : decode b_G_measure 124 = .ok (.aload_n 2, 1) := by decide +kernel
theorem d_G_measure_125 : decode b_G_measure 125 = .ok (.getfield 72, 3) := by decide +kernel
theorem d_G_measure_128 : decode b_G_measure 128 = .ok (.iaload, 1) := by decide +kernel
theorem d_G_measure_129 : decode b_G_measure 129 = .ok (.aaload, 1) := by decide +kernel
theorem d_G_measure_130 : decode b_G_measure 130 = .ok (.astore_n 3, 1) := by decide +kernel
theorem d_G_measure_131 : decode b_G_measure 131 = .ok (.aload_n 3, 1) := by decide +kernel
theorem d_G_measure_132 : decode b_G_measure 132 = .ok (.getfield 75, 3) := by decide +kernel
theorem d_G_measure_135 : decode b_G_measure 135 = .ok (.ifCond .eq 33, 3) := by decide +kernel
theorem d_G_measure_138 : decode b_G_measure 138 = .ok (.aload_n 2, 1) := by decide +kernel
theorem d_G_measure_139 : decode b_G_measure 139 = .ok (.aload_n 2, 1) := by decide +kernel
theorem d_G_measure_140 : decode b_G_measure 140 = .ok (.getfield 78, 3) := by decide +kernel
theorem d_G_measure_143 : decode b_G_measure 143 = .ok (.aload_n 3, 1) := by decide +kernel
theorem d_G_measure_144 : decode b_G_measure 144 = .ok (.getfield 78, 3) := by decide +kernel
theorem d_G_measure_147 : decode b_G_measure 147 = .ok (.iconst 1, 1) := by decide +kernel
theorem d_G_measure_148 : decode b_G_measure 148 = .ok (.iadd, 1) := by decide +kernel
theorem d_G_measure_149 : decode b_G_measure 149 = .ok (.invokestatic 87, 3) := by decide +kernel
theorem d_G_measure_152 : decode b_G_measure 152 = .ok (.putfield 78, 3) := by decide +kernel
theorem d_G_measure_155 : decode b_G_measure 155 = .ok (.aload_n 2, 1) := by decide +kernel
theorem d_G_measure_156 : decode b_G_measure 156 = .ok (.dup, 1) := by decide +kernel
theorem d_G_measure_157 : decode b_G_measure 157 = .ok (.getfield 72, 3) := by decide +kernel
theorem d_G_measure_160 : decode b_G_measure 160 = .ok (.iconst 1, 1) := by decide +kernel
theorem d_G_measure_161 : decode b_G_measure 161 = .ok (.iadd, 1) := by decide +kernel
theorem d_G_measure_162 : decode b_G_measure 162 = .ok (.putfield 72, 3) := by decide +kernel
theorem d_G_measure_165 : decode b_G_measure 165 = .ok (.goto 21, 3) := by decide +kernel
theorem d_G_measure_168 : decode b_G_measure 168 = .ok (.aload_n 0, 1) := by decide +kernel
theorem d_G_measure_169 : decode b_G_measure 169 = .ok (.getfield 19, 3) := by decide +kernel
theorem d_G_measure_172 : decode b_G_measure 172 = .ok (.iload_n 1, 1) := by decide +kernel
theorem d_G_measure_173 : decode b_G_measure 173 = .ok (.aload_n 2, 1) := by decide +kernel
theorem d_G_measure_174 : decode b_G_measure 174 = .ok (.getfield 63, 3) := by decide +kernel
theorem d_G_measure_177 : decode b_G_measure 177 = .ok (.aload_n 2, 1) := by decide +kernel
theorem d_G_measure_178 : decode b_G_measure 178 = .ok (.getfield 72, 3) := by decide +kernel
theorem d_G_measure_181 : decode b_G_measure 181 = .ok (.iaload, 1) := by decide +kernel
theorem d_G_measure_182 : decode b_G_measure 182 = .ok (.iastore, 1) := by decide +kernel
theorem d_G_measure_183 : decode b_G_measure 183 = .ok (.iinc 1 1, 3) := by decide +kernel
theorem d_G_measure_186 : decode b_G_measure 186 = .ok (.goto (-110), 3) := by decide +kernel
theorem d_G_measure_189 : decode b_G_measure 189 = .ok (.return_, 1) := by decide +kernel
theorem d_L_states_0 : decode b_L_states 0 = .ok (.aload_n 0, 1) := by decide +kernel
theorem d_L_states_1 : decode b_L_states 1 = .ok (.iload_n 1, 1) := by decide +kernel
theorem d_L_states_2 : decode b_L_states 2 = .ok (.invokevirtual 7, 3) := by decide +kernel
theorem d_L_states_5 : decode b_L_states 5 = .ok (.goto 6, 3) := by decide +kernel
theorem d_L_states_8 : decode b_L_states 8 = .ok (.astore_n 2, 1) := by decide +kernel
theorem d_L_states_9 : decode b_L_states 9 = .ok (.iconst 1, 1) := by decide +kernel
theorem d_L_states_10 : decode b_L_states 10 = .ok (.ireturn, 1) := by decide +kernel
theorem d_L_states_11 : decode b_L_states 11 = .ok (.iconst 0, 1) := by decide +kernel
theorem d_L_states_12 : decode b_L_states 12 = .ok (.ireturn, 1) := by decide +kernel
theorem d_G_states_0 : decode b_G_states 0 = .ok (.iload_n 1, 1) := by decide +kernel
theorem d_G_states_1 : decode b_G_states 1 = .ok (.iconst 1, 1) := by decide +kernel
theorem d_G_states_2 : decode b_G_states 2 = .ok (.bipush 60, 2) := by decide +kernel
theorem d_G_states_4 : decode b_G_states 4 = .ok (.invokestatic 38, 3) := by decide +kernel
theorem d_G_states_7 : decode b_G_states 7 = .ok (.invokestatic 46, 3) := by decide +kernel
theorem d_G_states_10 : decode b_G_states 10 = .ok (.aload_n 0, 1) := by decide +kernel
theorem d_G_states_11 : decode b_G_states 11 = .ok (.iload_n 1, 1) := by decide +kernel
theorem d_G_states_12 : decode b_G_states 12 = .ok (.putfield 15, 3) := by decide +kernel
theorem d_G_states_15 : decode b_G_states 15 = .ok (.iconst 0, 1) := by decide +kernel
theorem d_G_states_16 : decode b_G_states 16 = .ok (.istore_n 2, 1) := by decide +kernel
theorem d_G_states_17 : decode b_G_states 17 = .ok (.iload_n 2, 1) := by decide +kernel
theorem d_G_states_18 : decode b_G_states 18 = .ok (.iload_n 1, 1) := by decide +kernel
theorem d_G_states_19 : decode b_G_states 19 = .ok (.if_icmp .ge 22, 3) := by decide +kernel
theorem d_G_states_22 : decode b_G_states 22 = .ok (.aload_n 0, 1) := by decide +kernel
theorem d_G_states_23 : decode b_G_states 23 = .ok (.getfield 11, 3) := by decide +kernel
theorem d_G_states_26 : decode b_G_states 26 = .ok (.iload_n 2, 1) := by decide +kernel
theorem d_G_states_27 : decode b_G_states 27 = .ok (.aaload, 1) := by decide +kernel
theorem d_G_states_28 : decode b_G_states 28 = .ok (.bipush 50, 2) := by decide +kernel
theorem d_G_states_30 : decode b_G_states 30 = .ok (.bipush 50, 2) := by decide +kernel
theorem d_G_states_32 : decode b_G_states 32 = .ok (.invokevirtual 28, 3) := by decide +kernel
theorem d_G_states_35 : decode b_G_states 35 = .ok (.iinc 2 1, 3) := by decide +kernel
theorem d_G_states_38 : decode b_G_states 38 = .ok (.goto (-21), 3) := by decide +kernel
theorem d_G_states_41 : decode b_G_states 41 = .ok (.aload_n 0, 1) := by decide +kernel
theorem d_G_states_42 : decode b_G_states 42 = .ok (.iconst 0, 1) := by decide +kernel
theorem d_G_states_43 : decode b_G_states 43 = .ok (.putfield 49, 3) := by decide +kernel
theorem d_G_states_46 : decode b_G_states 46 = .ok (.return_, 1) := by decide +kernel
theorem d_G_is_0 : decode b_G_is 0 = .ok (.iload_n 0, 1) := by decide +kernel
theorem d_G_is_1 : decode b_G_is 1 = .ok (.iload_n 1, 1) := by decide +kernel
theorem d_G_is_2 : decode b_G_is 2 = .ok (.if_icmp .lt 12, 3) := by decide +kernel
theorem d_G_is_5 : decode b_G_is 5 = .ok (.iload_n 0, 1) := by decide +kernel
theorem d_G_is_6 : decode b_G_is 6 = .ok (.iload_n 2, 1) := by decide +kernel
theorem d_G_is_7 : decode b_G_is 7 = .ok (.if_icmp .gt 7, 3) := by decide +kernel
theorem d_G_is_10 : decode b_G_is 10 = .ok (.iconst 1, 1) := by decide +kernel
theorem d_G_is_11 : decode b_G_is 11 = .ok (.goto 4, 3) := by decide +kernel
theorem d_G_is_14 : decode b_G_is 14 = .ok (.iconst 0, 1) := by decide +kernel
theorem d_G_is_15 : decode b_G_is 15 = .ok (.ireturn, 1) := by decide +kernel
theorem d_G_need_0 : decode b_G_need 0 = .ok (.iload_n 0, 1) := by decide +kernel
theorem d_G_need_1 : decode b_G_need 1 = .ok (.ifCond .ne 11, 3) := by decide +kernel
theorem d_G_need_4 : decode b_G_need 4 = .ok (.new 32, 3) := by decide +kernel
theorem d_G_need_7 : decode b_G_need 7 = .ok (.dup, 1) := by decide +kernel
theorem d_G_need_8 : decode b_G_need 8 = .ok (.invokespecial 34, 3) := by decide +kernel
theorem d_G_need_11 : decode b_G_need 11 = .ok (.athrow, 1) := by decide +kernel
theorem d_G_need_12 : decode b_G_need 12 = .ok (.return_, 1) := by decide +kernel
theorem d_L_end_0 : decode b_L_end 0 = .ok (.aload_n 0, 1) := by decide +kernel
theorem d_L_end_1 : decode b_L_end 1 = .ok (.iload_n 1, 1) := by decide +kernel
theorem d_L_end_2 : decode b_L_end 2 = .ok (.iload_n 2, 1) := by decide +kernel
theorem d_L_end_3 : decode b_L_end 3 = .ok (.iload_n 3, 1) := by decide +kernel
theorem d_L_end_4 : decode b_L_end 4 = .ok (.invokevirtual 15, 3) := by decide +kernel
theorem d_L_end_7 : decode b_L_end 7 = .ok (.goto 11, 3) := by decide +kernel
theorem d_L_end_10 : decode b_L_end 10 = .ok (.astore 4, 2) := by decide +kernel
theorem d_L_end_12 : decode b_L_end 12 = .ok (.iconst 1, 1) := by decide +kernel
theorem d_L_end_13 : decode b_L_end 13 = .ok (.ireturn, 1) := by decide +kernel
theorem d_L_end_14 : decode b_L_end 14 = .ok (.astore 4, 2) := by decide +kernel
theorem d_L_end_16 : decode b_L_end 16 = .ok (.iconst 2, 1) := by decide +kernel
theorem d_L_end_17 : decode b_L_end 17 = .ok (.ireturn, 1) := by decide +kernel
theorem d_L_end_18 : decode b_L_end 18 = .ok (.iconst 0, 1) := by decide +kernel
theorem d_L_end_19 : decode b_L_end 19 = .ok (.ireturn, 1) := by decide +kernel
theorem d_G_end_0 : decode b_G_end 0 = .ok (.aload_n 0, 1) := by decide +kernel
theorem d_G_end_1 : decode b_G_end 1 = .ok (.iload_n 1, 1) := by decide +kernel
theorem d_G_end_2 : decode b_G_end 2 = .ok (.invokevirtual 53, 3) := by decide +kernel
theorem d_G_end_5 : decode b_G_end 5 = .ok (.astore 4, 2) := by decide +kernel
theorem d_G_end_7 : decode b_G_end 7 = .ok (.iload_n 2, 1) := by decide +kernel
theorem d_G_end_8 : decode b_G_end 8 = .ok (.bipush (-2), 2) := by decide +kernel
theorem d_G_end_10 : decode b_G_end 10 = .ok (.bipush 100, 2) := by decide +kernel
theorem d_G_end_12 : decode b_G_end 12 = .ok (.invokestatic 38, 3) := by decide +kernel
theorem d_G_end_15 : decode b_G_end 15 = .ok (.ifCond .eq 18, 3) := by decide +kernel
theorem d_G_end_18 : decode b_G_end 18 = .ok (.iload_n 3, 1) := by decide +kernel
theorem d_G_end_19 : decode b_G_end 19 = .ok (.bipush (-2), 2) := by decide +kernel
theorem d_G_end_21 : decode b_G_end 21 = .ok (.bipush 100, 2) := by decide +kernel
theorem d_G_end_23 : decode b_G_end 23 = .ok (.invokestatic 38, 3) := by decide +kernel
theorem d_G_end_26 : decode b_G_end 26 = .ok (.ifCond .eq 7, 3) := by decide +kernel
theorem d_G_end_29 : decode b_G_end 29 = .ok (.iconst 1, 1) := by decide +kernel
theorem d_G_end_30 : decode b_G_end 30 = .ok (.goto 4, 3) := by decide +kernel
theorem d_G_end_33 : decode b_G_end 33 = .ok (.iconst 0, 1) := by decide +kernel
theorem d_G_end_34 : decode b_G_end 34 = .ok (.invokestatic 46, 3) := by decide +kernel
theorem d_G_end_37 : decode b_G_end 37 = .ok (.aload 4, 2) := by decide +kernel
theorem d_G_end_39 : decode b_G_end 39 = .ok (.iload_n 2, 1) := by decide +kernel
theorem d_G_end_40 : decode b_G_end 40 = .ok (.iload_n 3, 1) := by decide +kernel
theorem d_G_end_41 : decode b_G_end 41 = .ok (.invokevirtual 28, 3) := by decide +kernel
theorem d_G_end_44 : decode b_G_end 44 = .ok (.aload_n 0, 1) := by decide +kernel
theorem d_G_end_45 : decode b_G_end 45 = .ok (.iconst 0, 1) := by decide +kernel
theorem d_G_end_46 : decode b_G_end 46 = .ok (.putfield 49, 3) := by decide +kernel
theorem d_G_end_49 : decode b_G_end 49 = .ok (.return_, 1) := by decide +kernel
theorem d_G_find_0 : decode b_G_find 0 = .ok (.iload_n 1, 1) := by decide +kernel
theorem d_G_find_1 : decode b_G_find 1 = .ok (.iconst 0, 1) := by decide +kernel
theorem d_G_find_2 : decode b_G_find 2 = .ok (.aload_n 0, 1) := by decide +kernel
theorem d_G_find_3 : decode b_G_find 3 = .ok (.getfield 15, 3) := by decide +kernel
theorem d_G_find_6 : decode b_G_find 6 = .ok (.iconst 1, 1) := by decide +kernel
theorem d_G_find_7 : decode b_G_find 7 = .ok (.isub, 1) := by decide +kernel
theorem d_G_find_8 : decode b_G_find 8 = .ok (.invokestatic 38, 3) := by decide +kernel
theorem d_G_find_11 : decode b_G_find 11 = .ok (.invokestatic 42, 3) := by decide +kernel
theorem d_G_find_14 : decode b_G_find 14 = .ok (.aload_n 0, 1) := by decide +kernel
theorem d_G_find_15 : decode b_G_find 15 = .ok (.getfield 11, 3) := by decide +kernel
theorem d_G_find_18 : decode b_G_find 18 = .ok (.iload_n 1, 1) := by decide +kernel
theorem d_G_find_19 : decode b_G_find 19 = .ok (.aaload, 1) := by decide +kernel
theorem d_G_find_20 : decode b_G_find 20 = .ok (.areturn, 1) := by decide +kernel
theorem d_G_there_0 : decode b_G_there 0 = .ok (.iload_n 0, 1) := by decide +kernel
theorem d_G_there_1 : decode b_G_there 1 = .ok (.ifCond .ne 11, 3) := by decide +kernel
theorem d_G_there_4 : decode b_G_there 4 = .ok (.new 35, 3) := by decide +kernel
theorem d_G_there_7 : decode b_G_there 7 = .ok (.dup, 1) := by decide +kernel
theorem d_G_there_8 : decode b_G_there 8 = .ok (.invokespecial 37, 3) := by decide +kernel
theorem d_G_there_11 : decode b_G_there 11 = .ok (.athrow, 1) := by decide +kernel
theorem d_G_there_12 : decode b_G_there 12 = .ok (.return_, 1) := by decide +kernel
theorem d_L_open_0 : decode b_L_open 0 = .ok (.aload_n 0, 1) := by decide +kernel
theorem d_L_open_1 : decode b_L_open 1 = .ok (.iload_n 1, 1) := by decide +kernel
theorem d_L_open_2 : decode b_L_open 2 = .ok (.iload_n 2, 1) := by decide +kernel
theorem d_L_open_3 : decode b_L_open 3 = .ok (.iload_n 3, 1) := by decide +kernel
theorem d_L_open_4 : decode b_L_open 4 = .ok (.invokevirtual 21, 3) := by decide +kernel
theorem d_L_open_7 : decode b_L_open 7 = .ok (.goto 11, 3) := by decide +kernel
theorem d_L_open_10 : decode b_L_open 10 = .ok (.astore 4, 2) := by decide +kernel
theorem d_L_open_12 : decode b_L_open 12 = .ok (.iconst 1, 1) := by decide +kernel
theorem d_L_open_13 : decode b_L_open 13 = .ok (.ireturn, 1) := by decide +kernel
theorem d_L_open_14 : decode b_L_open 14 = .ok (.astore 4, 2) := by decide +kernel
theorem d_L_open_16 : decode b_L_open 16 = .ok (.iconst 2, 1) := by decide +kernel
theorem d_L_open_17 : decode b_L_open 17 = .ok (.ireturn, 1) := by decide +kernel
theorem d_L_open_18 : decode b_L_open 18 = .ok (.iconst 0, 1) := by decide +kernel
theorem d_L_open_19 : decode b_L_open 19 = .ok (.ireturn, 1) := by decide +kernel
theorem d_G_open_0 : decode b_G_open 0 = .ok (.aload_n 0, 1) := by decide +kernel
theorem d_G_open_1 : decode b_G_open 1 = .ok (.iload_n 1, 1) := by decide +kernel
theorem d_G_open_2 : decode b_G_open 2 = .ok (.invokevirtual 53, 3) := by decide +kernel
theorem d_G_open_5 : decode b_G_open 5 = .ok (.astore 4, 2) := by decide +kernel
theorem d_G_open_7 : decode b_G_open 7 = .ok (.iload_n 2, 1) := by decide +kernel
theorem d_G_open_8 : decode b_G_open 8 = .ok (.iconst 0, 1) := by decide +kernel
theorem d_G_open_9 : decode b_G_open 9 = .ok (.bipush 12, 2) := by decide +kernel
theorem d_G_open_11 : decode b_G_open 11 = .ok (.invokestatic 38, 3) := by decide +kernel
theorem d_G_open_14 : decode b_G_open 14 = .ok (.ifCond .eq 25, 3) := by decide +kernel
theorem d_G_open_17 : decode b_G_open 17 = .ok (.iload_n 3, 1) := by decide +kernel
theorem d_G_open_18 : decode b_G_open 18 = .ok (.iconst 0, 1) := by decide +kernel
theorem d_G_open_19 : decode b_G_open 19 = .ok (.bipush 12, 2) := by decide +kernel
theorem d_G_open_21 : decode b_G_open 21 = .ok (.invokestatic 38, 3) := by decide +kernel
theorem d_G_open_24 : decode b_G_open 24 = .ok (.ifCond .eq 15, 3) := by decide +kernel
theorem d_G_open_27 : decode b_G_open 27 = .ok (.iload_n 2, 1) := by decide +kernel
theorem d_G_open_28 : decode b_G_open 28 = .ok (.iload_n 3, 1) := by decide +kernel
theorem d_G_open_29 : decode b_G_open 29 = .ok (.imul, 1) := by decide +kernel
theorem d_G_open_30 : decode b_G_open 30 = .ok (.bipush 12, 2) := by decide +kernel
theorem d_G_open_32 : decode b_G_open 32 = .ok (.if_icmp .gt 7, 3) := by decide +kernel
theorem d_G_open_35 : decode b_G_open 35 = .ok (.iconst 1, 1) := by decide +kernel
theorem d_G_open_36 : decode b_G_open 36 = .ok (.goto 4, 3) := by decide +kernel
theorem d_G_open_39 : decode b_G_open 39 = .ok (.iconst 0, 1) := by decide +kernel
theorem d_G_open_40 : decode b_G_open 40 = .ok (.invokestatic 46, 3) := by decide +kernel
theorem d_G_open_43 : decode b_G_open 43 = .ok (.aload 4, 2) := by decide +kernel
theorem d_G_open_45 : decode b_G_open 45 = .ok (.iload_n 2, 1) := by decide +kernel
theorem d_G_open_46 : decode b_G_open 46 = .ok (.iload_n 3, 1) := by decide +kernel
theorem d_G_open_47 : decode b_G_open 47 = .ok (.invokevirtual 57, 3) := by decide +kernel
theorem d_G_open_50 : decode b_G_open 50 = .ok (.aload_n 0, 1) := by decide +kernel
theorem d_G_open_51 : decode b_G_open 51 = .ok (.iconst 0, 1) := by decide +kernel
theorem d_G_open_52 : decode b_G_open 52 = .ok (.putfield 49, 3) := by decide +kernel
theorem d_G_open_55 : decode b_G_open 55 = .ok (.return_, 1) := by decide +kernel
theorem d_S_open_0 : decode b_S_open 0 = .ok (.aload_n 0, 1) := by decide +kernel
theorem d_S_open_1 : decode b_S_open 1 = .ok (.iconst 0, 1) := by decide +kernel
theorem d_S_open_2 : decode b_S_open 2 = .ok (.putfield 15, 3) := by decide +kernel
theorem d_S_open_5 : decode b_S_open 5 = .ok (.aload_n 0, 1) := by decide +kernel
theorem d_S_open_6 : decode b_S_open 6 = .ok (.iload_n 1, 1) := by decide +kernel
theorem d_S_open_7 : decode b_S_open 7 = .ok (.putfield 19, 3) := by decide +kernel
theorem d_S_open_10 : decode b_S_open 10 = .ok (.aload_n 0, 1) := by decide +kernel
theorem d_S_open_11 : decode b_S_open 11 = .ok (.iload_n 2, 1) := by decide +kernel
theorem d_S_open_12 : decode b_S_open 12 = .ok (.putfield 23, 3) := by decide +kernel
theorem d_S_open_15 : decode b_S_open 15 = .ok (.aload_n 0, 1) := by decide +kernel
theorem d_S_open_16 : decode b_S_open 16 = .ok (.iload_n 1, 1) := by decide +kernel
theorem d_S_open_17 : decode b_S_open 17 = .ok (.iload_n 2, 1) := by decide +kernel
theorem d_S_open_18 : decode b_S_open 18 = .ok (.imul, 1) := by decide +kernel
theorem d_S_open_19 : decode b_S_open 19 = .ok (.putfield 26, 3) := by decide +kernel
theorem d_S_open_22 : decode b_S_open 22 = .ok (.iconst 0, 1) := by decide +kernel
theorem d_S_open_23 : decode b_S_open 23 = .ok (.istore_n 3, 1) := by decide +kernel
theorem d_S_open_24 : decode b_S_open 24 = .ok (.iload_n 3, 1) := by decide +kernel
theorem d_S_open_25 : decode b_S_open 25 = .ok (.aload_n 0, 1) := by decide +kernel
theorem d_S_open_26 : decode b_S_open 26 = .ok (.getfield 26, 3) := by decide +kernel
theorem d_S_open_29 : decode b_S_open 29 = .ok (.if_icmp .ge 16, 3) := by decide +kernel
theorem d_S_open_32 : decode b_S_open 32 = .ok (.aload_n 0, 1) := by decide +kernel
theorem d_S_open_33 : decode b_S_open 33 = .ok (.getfield 9, 3) := by decide +kernel
theorem d_S_open_36 : decode b_S_open 36 = .ok (.iload_n 3, 1) := by decide +kernel
theorem d_S_open_37 : decode b_S_open 37 = .ok (.iconst 0, 1) := by decide +kernel
theorem d_S_open_38 : decode b_S_open 38 = .ok (.iastore, 1) := by decide +kernel
theorem d_S_open_39 : decode b_S_open 39 = .ok (.iinc 3 1, 3) := by decide +kernel
theorem d_S_open_42 : decode b_S_open 42 = .ok (.goto (-18), 3) := by decide +kernel
theorem d_S_open_45 : decode b_S_open 45 = .ok (.return_, 1) := by decide +kernel
theorem d_L_link_0 : decode b_L_link 0 = .ok (.aload_n 0, 1) := by decide +kernel
theorem d_L_link_1 : decode b_L_link 1 = .ok (.iload_n 1, 1) := by decide +kernel
theorem d_L_link_2 : decode b_L_link 2 = .ok (.iload_n 2, 1) := by decide +kernel
theorem d_L_link_3 : decode b_L_link 3 = .ok (.iload_n 3, 1) := by decide +kernel
theorem d_L_link_4 : decode b_L_link 4 = .ok (.invokevirtual 24, 3) := by decide +kernel
theorem d_L_link_7 : decode b_L_link 7 = .ok (.goto 7, 3) := by decide +kernel
theorem d_L_link_10 : decode b_L_link 10 = .ok (.astore 4, 2) := by decide +kernel
theorem d_L_link_12 : decode b_L_link 12 = .ok (.iconst 1, 1) := by decide +kernel
theorem d_L_link_13 : decode b_L_link 13 = .ok (.ireturn, 1) := by decide +kernel
theorem d_L_link_14 : decode b_L_link 14 = .ok (.iconst 0, 1) := by decide +kernel
theorem d_L_link_15 : decode b_L_link 15 = .ok (.ireturn, 1) := by decide +kernel
theorem d_G_link_0 : decode b_G_link 0 = .ok (.aload_n 0, 1) := by decide +kernel
theorem d_G_link_1 : decode b_G_link 1 = .ok (.iload_n 1, 1) := by decide +kernel
theorem d_G_link_2 : decode b_G_link 2 = .ok (.invokevirtual 53, 3) := by decide +kernel
theorem d_G_link_5 : decode b_G_link 5 = .ok (.astore 4, 2) := by decide +kernel
theorem d_G_link_7 : decode b_G_link 7 = .ok (.iload_n 2, 1) := by decide +kernel
theorem d_G_link_8 : decode b_G_link 8 = .ok (.iconst 0, 1) := by decide +kernel
theorem d_G_link_9 : decode b_G_link 9 = .ok (.aload 4, 2) := by decide +kernel
theorem d_G_link_11 : decode b_G_link 11 = .ok (.getfield 60, 3) := by decide +kernel
theorem d_G_link_14 : decode b_G_link 14 = .ok (.iconst 1, 1) := by decide +kernel
theorem d_G_link_15 : decode b_G_link 15 = .ok (.isub, 1) := by decide +kernel
theorem d_G_link_16 : decode b_G_link 16 = .ok (.invokestatic 38, 3) := by decide +kernel
theorem d_G_link_19 : decode b_G_link 19 = .ok (.ifCond .eq 21, 3) := by decide +kernel
theorem d_G_link_22 : decode b_G_link 22 = .ok (.iload_n 3, 1) := by decide +kernel
theorem d_G_link_23 : decode b_G_link 23 = .ok (.iconst 0, 1) := by decide +kernel
theorem d_G_link_24 : decode b_G_link 24 = .ok (.aload_n 0, 1) := by decide +kernel
theorem d_G_link_25 : decode b_G_link 25 = .ok (.getfield 15, 3) := by decide +kernel
theorem d_G_link_28 : decode b_G_link 28 = .ok (.iconst 1, 1) := by decide +kernel
theorem d_G_link_29 : decode b_G_link 29 = .ok (.isub, 1) := by decide +kernel
theorem d_G_link_30 : decode b_G_link 30 = .ok (.invokestatic 38, 3) := by decide +kernel
theorem d_G_link_33 : decode b_G_link 33 = .ok (.ifCond .eq 7, 3) := by decide +kernel
theorem d_G_link_36 : decode b_G_link 36 = .ok (.iconst 1, 1) := by decide +kernel
theorem d_G_link_37 : decode b_G_link 37 = .ok (.goto 4, 3) := by decide +kernel
theorem d_G_link_40 : decode b_G_link 40 = .ok (.iconst 0, 1) := by decide +kernel
theorem d_G_link_41 : decode b_G_link 41 = .ok (.invokestatic 42, 3) := by decide +kernel
theorem d_G_link_44 : decode b_G_link 44 = .ok (.aload 4, 2) := by decide +kernel
theorem d_G_link_46 : decode b_G_link 46 = .ok (.getfield 63, 3) := by decide +kernel
theorem d_G_link_49 : decode b_G_link 49 = .ok (.iload_n 2, 1) := by decide +kernel
theorem d_G_link_50 : decode b_G_link 50 = .ok (.iload_n 3, 1) := by decide +kernel
theorem d_G_link_51 : decode b_G_link 51 = .ok (.iastore, 1) := by decide +kernel
theorem d_G_link_52 : decode b_G_link 52 = .ok (.aload_n 0, 1) := by decide +kernel
theorem d_G_link_53 : decode b_G_link 53 = .ok (.iconst 0, 1) := by decide +kernel
theorem d_G_link_54 : decode b_G_link 54 = .ok (.putfield 49, 3) := by decide +kernel
theorem d_G_link_57 : decode b_G_link 57 = .ok (.return_, 1) := by decide +kernel
theorem d_L_next_0 : decode b_L_next 0 = .ok (.aload_n 3, 1) := by decide +kernel
theorem d_L_next_1 : decode b_L_next 1 = .ok (.iconst 0, 1) := by decide +kernel
theorem d_L_next_2 : decode b_L_next 2 = .ok (.aload_n 0, 1) := by decide +kernel
theorem d_L_next_3 : decode b_L_next 3 = .ok (.iload_n 1, 1) := by decide +kernel
theorem d_L_next_4 : decode b_L_next 4 = .ok (.iload_n 2, 1) := by decide +kernel
theorem d_L_next_5 : decode b_L_next 5 = .ok (.invokevirtual 27, 3) := by decide +kernel
theorem d_L_next_8 : decode b_L_next 8 = .ok (.i2l, 1) := by decide +kernel
theorem d_L_next_9 : decode b_L_next 9 = .ok (.lastore, 1) := by decide +kernel
theorem d_L_next_10 : decode b_L_next 10 = .ok (.goto 7, 3) := by decide +kernel
theorem d_L_next_13 : decode b_L_next 13 = .ok (.astore 4, 2) := by decide +kernel
theorem d_L_next_15 : decode b_L_next 15 = .ok (.iconst 1, 1) := by decide +kernel
theorem d_L_next_16 : decode b_L_next 16 = .ok (.ireturn, 1) := by decide +kernel
theorem d_L_next_17 : decode b_L_next 17 = .ok (.iconst 0, 1) := by decide +kernel
theorem d_L_next_18 : decode b_L_next 18 = .ok (.ireturn, 1) := by decide +kernel
theorem d_G_next_0 : decode b_G_next 0 = .ok (.aload_n 0, 1) := by decide +kernel
theorem d_G_next_1 : decode b_G_next 1 = .ok (.iload_n 1, 1) := by decide +kernel
theorem d_G_next_2 : decode b_G_next 2 = .ok (.invokevirtual 53, 3) := by decide +kernel
theorem d_G_next_5 : decode b_G_next 5 = .ok (.astore_n 3, 1) := by decide +kernel
theorem d_G_next_6 : decode b_G_next 6 = .ok (.iload_n 2, 1) := by decide +kernel
theorem d_G_next_7 : decode b_G_next 7 = .ok (.iconst 0, 1) := by decide +kernel
theorem d_G_next_8 : decode b_G_next 8 = .ok (.aload_n 3, 1) := by decide +kernel
theorem d_G_next_9 : decode b_G_next 9 = .ok (.getfield 60, 3) := by decide +kernel
theorem d_G_next_12 : decode b_G_next 12 = .ok (.iconst 1, 1) := by decide +kernel
theorem d_G_next_13 : decode b_G_next 13 = .ok (.isub, 1) := by decide +kernel
theorem d_G_next_14 : decode b_G_next 14 = .ok (.invokestatic 38, 3) := by decide +kernel
theorem d_G_next_17 : decode b_G_next 17 = .ok (.invokestatic 42, 3) := by decide +kernel
theorem d_G_next_20 : decode b_G_next 20 = .ok (.aload_n 3, 1) := by decide +kernel
theorem d_G_next_21 : decode b_G_next 21 = .ok (.getfield 63, 3) := by decide +kernel
theorem d_G_next_24 : decode b_G_next 24 = .ok (.iload_n 2, 1) := by decide +kernel
theorem d_G_next_25 : decode b_G_next 25 = .ok (.iaload, 1) := by decide +kernel
theorem d_G_next_26 : decode b_G_next 26 = .ok (.ireturn, 1) := by decide +kernel
theorem d_L_defect_0 : decode b_L_defect 0 = .ok (.aload_n 2, 1) := by decide +kernel
theorem d_L_defect_1 : decode b_L_defect 1 = .ok (.iconst 0, 1) := by decide +kernel
theorem d_L_defect_2 : decode b_L_defect 2 = .ok (.aload_n 0, 1) := by decide +kernel
theorem d_L_defect_3 : decode b_L_defect 3 = .ok (.iload_n 1, 1) := by decide +kernel
theorem d_L_defect_4 : decode b_L_defect 4 = .ok (.invokevirtual 31, 3) := by decide +kernel
theorem d_L_defect_7 : decode b_L_defect 7 = .ok (.i2l, 1) := by decide +kernel
theorem d_L_defect_8 : decode b_L_defect 8 = .ok (.lastore, 1) := by decide +kernel
theorem d_L_defect_9 : decode b_L_defect 9 = .ok (.goto 6, 3) := by decide +kernel
theorem d_L_defect_12 : decode b_L_defect 12 = .ok (.astore_n 3, 1) := by decide +kernel
theorem d_L_defect_13 : decode b_L_defect 13 = .ok (.iconst 1, 1) := by decide +kernel
theorem d_L_defect_14 : decode b_L_defect 14 = .ok (.ireturn, 1) := by decide +kernel
theorem d_L_defect_15 : decode b_L_defect 15 = .ok (.iconst 0, 1) := by decide +kernel
theorem d_L_defect_16 : decode b_L_defect 16 = .ok (.ireturn, 1) := by decide +kernel
theorem d_G_defect_0 : decode b_G_defect 0 = .ok (.iload_n 1, 1) := by decide +kernel
theorem d_G_defect_1 : decode b_G_defect 1 = .ok (.iconst 0, 1) := by decide +kernel
theorem d_G_defect_2 : decode b_G_defect 2 = .ok (.iconst 1, 1) := by decide +kernel
theorem d_G_defect_3 : decode b_G_defect 3 = .ok (.invokestatic 38, 3) := by decide +kernel
theorem d_G_defect_6 : decode b_G_defect 6 = .ok (.invokestatic 46, 3) := by decide +kernel
theorem d_G_defect_9 : decode b_G_defect 9 = .ok (.aload_n 0, 1) := by decide +kernel
theorem d_G_defect_10 : decode b_G_defect 10 = .ok (.invokevirtual 112, 3) := by decide +kernel
theorem d_G_defect_13 : decode b_G_defect 13 = .ok (.iload_n 1, 1) := by decide +kernel
theorem d_G_defect_14 : decode b_G_defect 14 = .ok (.ifCond .ne 10, 3) := by decide +kernel
end
section
-- ===== printed by gen/names.py: decode rows =====
theorem d_G_defect_17 : decode b_G_defect 17 = .ok (.aload_n 0, 1) := by decide +kernel
theorem d_G_defect_18 : decode b_G_defect 18 = .ok (.getfield 96, 3) := by decide +kernel
theorem d_G_defect_21 : decode b_G_defect 21 = .ok (.goto 7, 3) := by decide +kernel
theorem d_G_defect_24 : decode b_G_defect 24 = .ok (.aload_n 0, 1) := by decide +kernel
theorem d_G_defect_25 : decode b_G_defect 25 = .ok (.getfield 99, 3) := by decide +kernel
theorem d_G_defect_28 : decode b_G_defect 28 = .ok (.ireturn, 1) := by decide +kernel
theorem d_L_value_0 : decode b_L_value 0 = .ok (.aload_n 2, 1) := by decide +kernel
theorem d_L_value_1 : decode b_L_value 1 = .ok (.iconst 0, 1) := by decide +kernel
theorem d_L_value_2 : decode b_L_value 2 = .ok (.aload_n 0, 1) := by decide +kernel
theorem d_L_value_3 : decode b_L_value 3 = .ok (.iload_n 1, 1) := by decide +kernel
theorem d_L_value_4 : decode b_L_value 4 = .ok (.invokevirtual 35, 3) := by decide +kernel
theorem d_L_value_7 : decode b_L_value 7 = .ok (.i2l, 1) := by decide +kernel
theorem d_L_value_8 : decode b_L_value 8 = .ok (.lastore, 1) := by decide +kernel
theorem d_L_value_9 : decode b_L_value 9 = .ok (.goto 9, 3) := by decide +kernel
theorem d_L_value_12 : decode b_L_value 12 = .ok (.astore_n 3, 1) := by decide +kernel
theorem d_L_value_13 : decode b_L_value 13 = .ok (.iconst 1, 1) := by decide +kernel
theorem d_L_value_14 : decode b_L_value 14 = .ok (.ireturn, 1) := by decide +kernel
theorem d_L_value_15 : decode b_L_value 15 = .ok (.astore_n 3, 1) := by decide +kernel
theorem d_L_value_16 : decode b_L_value 16 = .ok (.iconst 2, 1) := by decide +kernel
theorem d_L_value_17 : decode b_L_value 17 = .ok (.ireturn, 1) := by decide +kernel
theorem d_L_value_18 : decode b_L_value 18 = .ok (.iconst 0, 1) := by decide +kernel
theorem d_L_value_19 : decode b_L_value 19 = .ok (.ireturn, 1) := by decide +kernel
theorem d_G_value_0 : decode b_G_value 0 = .ok (.aload_n 0, 1) := by decide +kernel
theorem d_G_value_1 : decode b_G_value 1 = .ok (.aload_n 0, 1) := by decide +kernel
theorem d_G_value_2 : decode b_G_value 2 = .ok (.iload_n 1, 1) := by decide +kernel
theorem d_G_value_3 : decode b_G_value 3 = .ok (.invokevirtual 131, 3) := by decide +kernel
theorem d_G_value_6 : decode b_G_value 6 = .ok (.invokevirtual 134, 3) := by decide +kernel
theorem d_G_value_9 : decode b_G_value 9 = .ok (.ireturn, 1) := by decide +kernel
theorem d_G_findReached_0 : decode b_G_findReached 0 = .ok (.aload_n 0, 1) := by decide +kernel
theorem d_G_findReached_1 : decode b_G_findReached 1 = .ok (.invokevirtual 112, 3) := by decide +kernel
theorem d_G_findReached_4 : decode b_G_findReached 4 = .ok (.aload_n 0, 1) := by decide +kernel
theorem d_G_findReached_5 : decode b_G_findReached 5 = .ok (.getfield 96, 3) := by decide +kernel
theorem d_G_findReached_8 : decode b_G_findReached 8 = .ok (.ifCond .eq 11, 3) := by decide +kernel
theorem d_G_findReached_11 : decode b_G_findReached 11 = .ok (.new 128, 3) := by decide +kernel
theorem d_G_findReached_14 : decode b_G_findReached 14 = .ok (.dup, 1) := by decide +kernel
theorem d_G_findReached_15 : decode b_G_findReached 15 = .ok (.invokespecial 130, 3) := by decide +kernel
theorem d_G_findReached_18 : decode b_G_findReached 18 = .ok (.athrow, 1) := by decide +kernel
theorem d_G_findReached_19 : decode b_G_findReached 19 = .ok (.aload_n 0, 1) := by decide +kernel
theorem d_G_findReached_20 : decode b_G_findReached 20 = .ok (.iload_n 1, 1) := by decide +kernel
theorem d_G_findReached_21 : decode b_G_findReached 21 = .ok (.invokevirtual 53, 3) := by decide +kernel
theorem d_G_findReached_24 : decode b_G_findReached 24 = .ok (.astore_n 2, 1) := by decide +kernel
theorem d_G_findReached_25 : decode b_G_findReached 25 = .ok (.aload_n 2, 1) := by decide +kernel
theorem d_G_findReached_26 : decode b_G_findReached 26 = .ok (.getfield 66, 3) := by decide +kernel
theorem d_G_findReached_29 : decode b_G_findReached 29 = .ok (.invokestatic 42, 3) := by decide +kernel
theorem d_G_findReached_32 : decode b_G_findReached 32 = .ok (.aload_n 2, 1) := by decide +kernel
theorem d_G_findReached_33 : decode b_G_findReached 33 = .ok (.areturn, 1) := by decide +kernel
theorem d_G_valueOf_0 : decode b_G_valueOf 0 = .ok (.aload_n 0, 1) := by decide +kernel
theorem d_G_valueOf_1 : decode b_G_valueOf 1 = .ok (.aload_n 1, 1) := by decide +kernel
theorem d_G_valueOf_2 : decode b_G_valueOf 2 = .ok (.iconst (-1), 1) := by decide +kernel
theorem d_G_valueOf_3 : decode b_G_valueOf 3 = .ok (.bipush 101, 2) := by decide +kernel
theorem d_G_valueOf_5 : decode b_G_valueOf 5 = .ok (.invokevirtual 124, 3) := by decide +kernel
theorem d_G_valueOf_8 : decode b_G_valueOf 8 = .ok (.ireturn, 1) := by decide +kernel
theorem d_G_search_0 : decode b_G_search 0 = .ok (.aload_n 1, 1) := by decide +kernel
theorem d_G_search_1 : decode b_G_search 1 = .ok (.getfield 81, 3) := by decide +kernel
theorem d_G_search_4 : decode b_G_search 4 = .ok (.aload_n 1, 1) := by decide +kernel
theorem d_G_search_5 : decode b_G_search 5 = .ok (.getfield 84, 3) := by decide +kernel
theorem d_G_search_8 : decode b_G_search 8 = .ok (.if_icmp .eq 11, 3) := by decide +kernel
theorem d_G_search_11 : decode b_G_search 11 = .ok (.aload_n 1, 1) := by decide +kernel
theorem d_G_search_12 : decode b_G_search 12 = .ok (.getfield 81, 3) := by decide +kernel
theorem d_G_search_15 : decode b_G_search 15 = .ok (.iload_n 3, 1) := by decide +kernel
theorem d_G_search_16 : decode b_G_search 16 = .ok (.if_icmp .lt 8, 3) := by decide +kernel
theorem d_G_search_19 : decode b_G_search 19 = .ok (.aload_n 1, 1) := by decide +kernel
theorem d_G_search_20 : decode b_G_search 20 = .ok (.getfield 81, 3) := by decide +kernel
theorem d_G_search_23 : decode b_G_search 23 = .ok (.ireturn, 1) := by decide +kernel
theorem d_G_search_24 : decode b_G_search 24 = .ok (.aload_n 1, 1) := by decide +kernel
theorem d_G_search_25 : decode b_G_search 25 = .ok (.getfield 84, 3) := by decide +kernel
theorem d_G_search_28 : decode b_G_search 28 = .ok (.iload_n 2, 1) := by decide +kernel
theorem d_G_search_29 : decode b_G_search 29 = .ok (.if_icmp .gt 8, 3) := by decide +kernel
theorem d_G_search_32 : decode b_G_search 32 = .ok (.aload_n 1, 1) := by decide +kernel
theorem d_G_search_33 : decode b_G_search 33 = .ok (.getfield 84, 3) := by decide +kernel
theorem d_G_search_36 : decode b_G_search 36 = .ok (.ireturn, 1) := by decide +kernel
theorem d_G_search_37 : decode b_G_search 37 = .ok (.aload_n 1, 1) := by decide +kernel
theorem d_G_search_38 : decode b_G_search 38 = .ok (.getfield 115, 3) := by decide +kernel
theorem d_G_search_41 : decode b_G_search 41 = .ok (.ifCond .eq 24, 3) := by decide +kernel
theorem d_G_search_44 : decode b_G_search 44 = .ok (.aload_n 1, 1) := by decide +kernel
theorem d_G_search_45 : decode b_G_search 45 = .ok (.aload_n 1, 1) := by decide +kernel
theorem d_G_search_46 : decode b_G_search 46 = .ok (.getfield 118, 3) := by decide +kernel
theorem d_G_search_49 : decode b_G_search 49 = .ok (.putfield 81, 3) := by decide +kernel
theorem d_G_search_52 : decode b_G_search 52 = .ok (.aload_n 1, 1) := by decide +kernel
theorem d_G_search_53 : decode b_G_search 53 = .ok (.aload_n 1, 1) := by decide +kernel
theorem d_G_search_54 : decode b_G_search 54 = .ok (.getfield 118, 3) := by decide +kernel
theorem d_G_search_57 : decode b_G_search 57 = .ok (.putfield 84, 3) := by decide +kernel
theorem d_G_search_60 : decode b_G_search 60 = .ok (.aload_n 1, 1) := by decide +kernel
theorem d_G_search_61 : decode b_G_search 61 = .ok (.getfield 118, 3) := by decide +kernel
theorem d_G_search_64 : decode b_G_search 64 = .ok (.ireturn, 1) := by decide +kernel
theorem d_G_search_65 : decode b_G_search 65 = .ok (.aload_n 1, 1) := by decide +kernel
theorem d_G_search_66 : decode b_G_search 66 = .ok (.getfield 118, 3) := by decide +kernel
theorem d_G_search_69 : decode b_G_search 69 = .ok (.iconst 1, 1) := by decide +kernel
theorem d_G_search_70 : decode b_G_search 70 = .ok (.if_icmp .le 7, 3) := by decide +kernel
theorem d_G_search_73 : decode b_G_search 73 = .ok (.iconst 1, 1) := by decide +kernel
theorem d_G_search_74 : decode b_G_search 74 = .ok (.goto 4, 3) := by decide +kernel
theorem d_G_search_77 : decode b_G_search 77 = .ok (.iconst 0, 1) := by decide +kernel
theorem d_G_search_78 : decode b_G_search 78 = .ok (.istore 4, 2) := by decide +kernel
theorem d_G_search_80 : decode b_G_search 80 = .ok (.iload 4, 2) := by decide +kernel
theorem d_G_search_82 : decode b_G_search 82 = .ok (.ifCond .eq 7, 3) := by decide +kernel
theorem d_G_search_85 : decode b_G_search 85 = .ok (.iconst (-1), 1) := by decide +kernel
theorem d_G_search_86 : decode b_G_search 86 = .ok (.goto 5, 3) := by decide +kernel
theorem d_G_search_89 : decode b_G_search 89 = .ok (.bipush 101, 2) := by decide +kernel
theorem d_G_search_91 : decode b_G_search 91 = .ok (.istore 5, 2) := by decide +kernel
theorem d_G_search_93 : decode b_G_search 93 = .ok (.iload_n 2, 1) := by decide +kernel
theorem d_G_search_94 : decode b_G_search 94 = .ok (.aload_n 1, 1) := by decide +kernel
theorem d_G_search_95 : decode b_G_search 95 = .ok (.getfield 81, 3) := by decide +kernel
theorem d_G_search_98 : decode b_G_search 98 = .ok (.invokestatic 87, 3) := by decide +kernel
theorem d_G_search_101 : decode b_G_search 101 = .ok (.istore 6, 2) := by decide +kernel
theorem d_G_search_103 : decode b_G_search 103 = .ok (.iload_n 3, 1) := by decide +kernel
theorem d_G_search_104 : decode b_G_search 104 = .ok (.aload_n 1, 1) := by decide +kernel
theorem d_G_search_105 : decode b_G_search 105 = .ok (.getfield 84, 3) := by decide +kernel
theorem d_G_search_108 : decode b_G_search 108 = .ok (.invokestatic 121, 3) := by decide +kernel
theorem d_G_search_111 : decode b_G_search 111 = .ok (.istore 7, 2) := by decide +kernel
theorem d_G_search_113 : decode b_G_search 113 = .ok (.iload 6, 2) := by decide +kernel
theorem d_G_search_115 : decode b_G_search 115 = .ok (.istore 8, 2) := by decide +kernel
theorem d_G_search_117 : decode b_G_search 117 = .ok (.iload 7, 2) := by decide +kernel
theorem d_G_search_119 : decode b_G_search 119 = .ok (.istore 9, 2) := by decide +kernel
theorem d_G_search_121 : decode b_G_search 121 = .ok (.iconst 0, 1) := by decide +kernel
theorem d_G_search_122 : decode b_G_search 122 = .ok (.istore 10, 2) := by decide +kernel
theorem d_G_search_124 : decode b_G_search 124 = .ok (.iload 10, 2) := by decide +kernel
theorem d_G_search_126 : decode b_G_search 126 = .ok (.aload_n 1, 1) := by decide +kernel
theorem d_G_search_127 : decode b_G_search 127 = .ok (.getfield 60, 3) := by decide +kernel
theorem d_G_search_130 : decode b_G_search 130 = .ok (.if_icmp .ge 100, 3) := by decide +kernel
theorem d_G_search_133 : decode b_G_search 133 = .ok (.iload 8, 2) := by decide +kernel
theorem d_G_search_135 : decode b_G_search 135 = .ok (.iload 9, 2) := by decide +kernel
theorem d_G_search_137 : decode b_G_search 137 = .ok (.if_icmp .ge 93, 3) := by decide +kernel
theorem d_G_search_140 : decode b_G_search 140 = .ok (.aload_n 0, 1) := by decide +kernel
theorem d_G_search_141 : decode b_G_search 141 = .ok (.aload_n 0, 1) := by decide +kernel
theorem d_G_search_142 : decode b_G_search 142 = .ok (.getfield 11, 3) := by decide +kernel
theorem d_G_search_145 : decode b_G_search 145 = .ok (.aload_n 1, 1) := by decide +kernel
theorem d_G_search_146 : decode b_G_search 146 = .ok (.getfield 63, 3) := by decide +kernel
theorem d_G_search_149 : decode b_G_search 149 = .ok (.iload 10, 2) := by decide +kernel
theorem d_G_search_151 : decode b_G_search 151 = .ok (.iaload, 1) := by decide +kernel
theorem d_G_search_152 : decode b_G_search 152 = .ok (.aaload, 1) := by decide +kernel
theorem d_G_search_153 : decode b_G_search 153 = .ok (.iload 8, 2) := by decide +kernel
theorem d_G_search_155 : decode b_G_search 155 = .ok (.iload 9, 2) := by decide +kernel
theorem d_G_search_157 : decode b_G_search 157 = .ok (.invokevirtual 124, 3) := by decide +kernel
theorem d_G_search_160 : decode b_G_search 160 = .ok (.istore 11, 2) := by decide +kernel
theorem d_G_search_162 : decode b_G_search 162 = .ok (.iload 4, 2) := by decide +kernel
theorem d_G_search_164 : decode b_G_search 164 = .ok (.ifCond .eq 13, 3) := by decide +kernel
theorem d_G_search_167 : decode b_G_search 167 = .ok (.iload 5, 2) := by decide +kernel
theorem d_G_search_169 : decode b_G_search 169 = .ok (.iload 11, 2) := by decide +kernel
theorem d_G_search_171 : decode b_G_search 171 = .ok (.invokestatic 87, 3) := by decide +kernel
theorem d_G_search_174 : decode b_G_search 174 = .ok (.goto 10, 3) := by decide +kernel
theorem d_G_search_177 : decode b_G_search 177 = .ok (.iload 5, 2) := by decide +kernel
theorem d_G_search_179 : decode b_G_search 179 = .ok (.iload 11, 2) := by decide +kernel
theorem d_G_search_181 : decode b_G_search 181 = .ok (.invokestatic 121, 3) := by decide +kernel
theorem d_G_search_184 : decode b_G_search 184 = .ok (.istore 5, 2) := by decide +kernel
theorem d_G_search_186 : decode b_G_search 186 = .ok (.iload 4, 2) := by decide +kernel
theorem d_G_search_188 : decode b_G_search 188 = .ok (.ifCond .eq 13, 3) := by decide +kernel
theorem d_G_search_191 : decode b_G_search 191 = .ok (.iload 8, 2) := by decide +kernel
theorem d_G_search_193 : decode b_G_search 193 = .ok (.iload 11, 2) := by decide +kernel
theorem d_G_search_195 : decode b_G_search 195 = .ok (.invokestatic 87, 3) := by decide +kernel
theorem d_G_search_198 : decode b_G_search 198 = .ok (.goto 5, 3) := by decide +kernel
theorem d_G_search_201 : decode b_G_search 201 = .ok (.iload 8, 2) := by decide +kernel
theorem d_G_search_203 : decode b_G_search 203 = .ok (.istore 8, 2) := by decide +kernel
theorem d_G_search_205 : decode b_G_search 205 = .ok (.iload 4, 2) := by decide +kernel
theorem d_G_search_207 : decode b_G_search 207 = .ok (.ifCond .eq 8, 3) := by decide +kernel
theorem d_G_search_210 : decode b_G_search 210 = .ok (.iload 9, 2) := by decide +kernel
theorem d_G_search_212 : decode b_G_search 212 = .ok (.goto 10, 3) := by decide +kernel
theorem d_G_search_215 : decode b_G_search 215 = .ok (.iload 9, 2) := by decide +kernel
theorem d_G_search_217 : decode b_G_search 217 = .ok (.iload 11, 2) := by decide +kernel
theorem d_G_search_219 : decode b_G_search 219 = .ok (.invokestatic 121, 3) := by decide +kernel
theorem d_G_search_222 : decode b_G_search 222 = .ok (.istore 9, 2) := by decide +kernel
theorem d_G_search_224 : decode b_G_search 224 = .ok (.iinc 10 1, 3) := by decide +kernel
theorem d_G_search_227 : decode b_G_search 227 = .ok (.goto (-103), 3) := by decide +kernel
theorem d_G_search_230 : decode b_G_search 230 = .ok (.aload_n 1, 1) := by decide +kernel
theorem d_G_search_231 : decode b_G_search 231 = .ok (.iload 5, 2) := by decide +kernel
theorem d_G_search_233 : decode b_G_search 233 = .ok (.iload 6, 2) := by decide +kernel
theorem d_G_search_235 : decode b_G_search 235 = .ok (.if_icmp .le 15, 3) := by decide +kernel
theorem d_G_search_238 : decode b_G_search 238 = .ok (.aload_n 1, 1) := by decide +kernel
theorem d_G_search_239 : decode b_G_search 239 = .ok (.getfield 81, 3) := by decide +kernel
theorem d_G_search_242 : decode b_G_search 242 = .ok (.iload 5, 2) := by decide +kernel
theorem d_G_search_244 : decode b_G_search 244 = .ok (.invokestatic 87, 3) := by decide +kernel
theorem d_G_search_247 : decode b_G_search 247 = .ok (.goto 7, 3) := by decide +kernel
theorem d_G_search_250 : decode b_G_search 250 = .ok (.aload_n 1, 1) := by decide +kernel
theorem d_G_search_251 : decode b_G_search 251 = .ok (.getfield 81, 3) := by decide +kernel
theorem d_G_search_254 : decode b_G_search 254 = .ok (.putfield 81, 3) := by decide +kernel
theorem d_G_search_257 : decode b_G_search 257 = .ok (.aload_n 1, 1) := by decide +kernel
theorem d_G_search_258 : decode b_G_search 258 = .ok (.iload 5, 2) := by decide +kernel
theorem d_G_search_260 : decode b_G_search 260 = .ok (.iload 7, 2) := by decide +kernel
theorem d_G_search_262 : decode b_G_search 262 = .ok (.if_icmp .ge 15, 3) := by decide +kernel
theorem d_G_search_265 : decode b_G_search 265 = .ok (.aload_n 1, 1) := by decide +kernel
theorem d_G_search_266 : decode b_G_search 266 = .ok (.getfield 84, 3) := by decide +kernel
theorem d_G_search_269 : decode b_G_search 269 = .ok (.iload 5, 2) := by decide +kernel
theorem d_G_search_271 : decode b_G_search 271 = .ok (.invokestatic 121, 3) := by decide +kernel
theorem d_G_search_274 : decode b_G_search 274 = .ok (.goto 7, 3) := by decide +kernel
theorem d_G_search_277 : decode b_G_search 277 = .ok (.aload_n 1, 1) := by decide +kernel
theorem d_G_search_278 : decode b_G_search 278 = .ok (.getfield 84, 3) := by decide +kernel
theorem d_G_search_281 : decode b_G_search 281 = .ok (.putfield 84, 3) := by decide +kernel
theorem d_G_search_284 : decode b_G_search 284 = .ok (.iload 5, 2) := by decide +kernel
theorem d_G_search_286 : decode b_G_search 286 = .ok (.ireturn, 1) := by decide +kernel
theorem d_L_best_0 : decode b_L_best 0 = .ok (.aload_n 2, 1) := by decide +kernel
theorem d_L_best_1 : decode b_L_best 1 = .ok (.iconst 0, 1) := by decide +kernel
theorem d_L_best_2 : decode b_L_best 2 = .ok (.aload_n 0, 1) := by decide +kernel
theorem d_L_best_3 : decode b_L_best 3 = .ok (.iload_n 1, 1) := by decide +kernel
theorem d_L_best_4 : decode b_L_best 4 = .ok (.invokevirtual 40, 3) := by decide +kernel
theorem d_L_best_7 : decode b_L_best 7 = .ok (.i2l, 1) := by decide +kernel
theorem d_L_best_8 : decode b_L_best 8 = .ok (.lastore, 1) := by decide +kernel
theorem d_L_best_9 : decode b_L_best 9 = .ok (.goto 9, 3) := by decide +kernel
theorem d_L_best_12 : decode b_L_best 12 = .ok (.astore_n 3, 1) := by decide +kernel
theorem d_L_best_13 : decode b_L_best 13 = .ok (.iconst 1, 1) := by decide +kernel
theorem d_L_best_14 : decode b_L_best 14 = .ok (.ireturn, 1) := by decide +kernel
theorem d_L_best_15 : decode b_L_best 15 = .ok (.astore_n 3, 1) := by decide +kernel
theorem d_L_best_16 : decode b_L_best 16 = .ok (.iconst 2, 1) := by decide +kernel
theorem d_L_best_17 : decode b_L_best 17 = .ok (.ireturn, 1) := by decide +kernel
theorem d_L_best_18 : decode b_L_best 18 = .ok (.iconst 0, 1) := by decide +kernel
theorem d_L_best_19 : decode b_L_best 19 = .ok (.ireturn, 1) := by decide +kernel
theorem d_G_best_0 : decode b_G_best 0 = .ok (.aload_n 0, 1) := by decide +kernel
theorem d_G_best_1 : decode b_G_best 1 = .ok (.iload_n 1, 1) := by decide +kernel
theorem d_G_best_2 : decode b_G_best 2 = .ok (.invokevirtual 131, 3) := by decide +kernel
theorem d_G_best_5 : decode b_G_best 5 = .ok (.astore_n 2, 1) := by decide +kernel
theorem d_G_best_6 : decode b_G_best 6 = .ok (.aload_n 0, 1) := by decide +kernel
theorem d_G_best_7 : decode b_G_best 7 = .ok (.aload_n 2, 1) := by decide +kernel
theorem d_G_best_8 : decode b_G_best 8 = .ok (.invokevirtual 134, 3) := by decide +kernel
theorem d_G_best_11 : decode b_G_best 11 = .ok (.istore_n 3, 1) := by decide +kernel
theorem d_G_best_12 : decode b_G_best 12 = .ok (.iconst 0, 1) := by decide +kernel
theorem d_G_best_13 : decode b_G_best 13 = .ok (.istore 4, 2) := by decide +kernel
theorem d_G_best_15 : decode b_G_best 15 = .ok (.iload 4, 2) := by decide +kernel
theorem d_G_best_17 : decode b_G_best 17 = .ok (.aload_n 2, 1) := by decide +kernel
theorem d_G_best_18 : decode b_G_best 18 = .ok (.getfield 60, 3) := by decide +kernel
theorem d_G_best_21 : decode b_G_best 21 = .ok (.if_icmp .ge 29, 3) := by decide +kernel
theorem d_G_best_24 : decode b_G_best 24 = .ok (.aload_n 0, 1) := by decide +kernel
theorem d_G_best_25 : decode b_G_best 25 = .ok (.aload_n 0, 1) := by decide +kernel
theorem d_G_best_26 : decode b_G_best 26 = .ok (.getfield 11, 3) := by decide +kernel
theorem d_G_best_29 : decode b_G_best 29 = .ok (.aload_n 2, 1) := by decide +kernel
theorem d_G_best_30 : decode b_G_best 30 = .ok (.getfield 63, 3) := by decide +kernel
theorem d_G_best_33 : decode b_G_best 33 = .ok (.iload 4, 2) := by decide +kernel
theorem d_G_best_35 : decode b_G_best 35 = .ok (.iaload, 1) := by decide +kernel
theorem d_G_best_36 : decode b_G_best 36 = .ok (.aaload, 1) := by decide +kernel
theorem d_G_best_37 : decode b_G_best 37 = .ok (.invokevirtual 134, 3) := by decide +kernel
theorem d_G_best_40 : decode b_G_best 40 = .ok (.iload_n 3, 1) := by decide +kernel
theorem d_G_best_41 : decode b_G_best 41 = .ok (.if_icmp .eq 9, 3) := by decide +kernel
theorem d_G_best_44 : decode b_G_best 44 = .ok (.iinc 4 1, 3) := by decide +kernel
theorem d_G_best_47 : decode b_G_best 47 = .ok (.goto (-32), 3) := by decide +kernel
theorem d_G_best_50 : decode b_G_best 50 = .ok (.iload 4, 2) := by decide +kernel
theorem d_G_best_52 : decode b_G_best 52 = .ok (.aload_n 2, 1) := by decide +kernel
theorem d_G_best_53 : decode b_G_best 53 = .ok (.getfield 60, 3) := by decide +kernel
theorem d_G_best_56 : decode b_G_best 56 = .ok (.if_icmp .ge 8, 3) := by decide +kernel
theorem d_G_best_59 : decode b_G_best 59 = .ok (.iload 4, 2) := by decide +kernel
theorem d_G_best_61 : decode b_G_best 61 = .ok (.goto 4, 3) := by decide +kernel
theorem d_G_best_64 : decode b_G_best 64 = .ok (.iconst (-1), 1) := by decide +kernel
theorem d_G_best_65 : decode b_G_best 65 = .ok (.ireturn, 1) := by decide +kernel
theorem d_L_length_0 : decode b_L_length 0 = .ok (.aload_n 2, 1) := by decide +kernel
theorem d_L_length_1 : decode b_L_length 1 = .ok (.iconst 0, 1) := by decide +kernel
theorem d_L_length_2 : decode b_L_length 2 = .ok (.aload_n 0, 1) := by decide +kernel
theorem d_L_length_3 : decode b_L_length 3 = .ok (.iload_n 1, 1) := by decide +kernel
theorem d_L_length_4 : decode b_L_length 4 = .ok (.invokevirtual 43, 3) := by decide +kernel
theorem d_L_length_7 : decode b_L_length 7 = .ok (.i2l, 1) := by decide +kernel
theorem d_L_length_8 : decode b_L_length 8 = .ok (.lastore, 1) := by decide +kernel
theorem d_L_length_9 : decode b_L_length 9 = .ok (.goto 9, 3) := by decide +kernel
theorem d_L_length_12 : decode b_L_length 12 = .ok (.astore_n 3, 1) := by decide +kernel
theorem d_L_length_13 : decode b_L_length 13 = .ok (.iconst 1, 1) := by decide +kernel
theorem d_L_length_14 : decode b_L_length 14 = .ok (.ireturn, 1) := by decide +kernel
theorem d_L_length_15 : decode b_L_length 15 = .ok (.astore_n 3, 1) := by decide +kernel
theorem d_L_length_16 : decode b_L_length 16 = .ok (.iconst 2, 1) := by decide +kernel
theorem d_L_length_17 : decode b_L_length 17 = .ok (.ireturn, 1) := by decide +kernel
theorem d_L_length_18 : decode b_L_length 18 = .ok (.iconst 0, 1) := by decide +kernel
theorem d_L_length_19 : decode b_L_length 19 = .ok (.ireturn, 1) := by decide +kernel
theorem d_G_length_0 : decode b_G_length 0 = .ok (.aload_n 0, 1) := by decide +kernel
theorem d_G_length_1 : decode b_G_length 1 = .ok (.iload_n 1, 1) := by decide +kernel
theorem d_G_length_2 : decode b_G_length 2 = .ok (.invokevirtual 131, 3) := by decide +kernel
theorem d_G_length_5 : decode b_G_length 5 = .ok (.getfield 78, 3) := by decide +kernel
theorem d_G_length_8 : decode b_G_length 8 = .ok (.ireturn, 1) := by decide +kernel
theorem d_M_init_0 : decode b_M_init 0 = .ok (.aload_n 0, 1) := by decide +kernel
theorem d_M_init_1 : decode b_M_init 1 = .ok (.invokespecial 1, 3) := by decide +kernel
theorem d_M_init_4 : decode b_M_init 4 = .ok (.aload_n 0, 1) := by decide +kernel
theorem d_M_init_5 : decode b_M_init 5 = .ok (.iconst 1, 1) := by decide +kernel
theorem d_M_init_6 : decode b_M_init 6 = .ok (.putfield 7, 3) := by decide +kernel
theorem d_M_init_9 : decode b_M_init 9 = .ok (.aload_n 0, 1) := by decide +kernel
theorem d_M_init_10 : decode b_M_init 10 = .ok (.bipush 60, 2) := by decide +kernel
theorem d_M_init_12 : decode b_M_init 12 = .ok (.newarray .boolean, 2) := by decide +kernel
theorem d_M_init_14 : decode b_M_init 14 = .ok (.putfield 13, 3) := by decide +kernel
theorem d_M_init_17 : decode b_M_init 17 = .ok (.aload_n 0, 1) := by decide +kernel
theorem d_M_init_18 : decode b_M_init 18 = .ok (.bipush 60, 2) := by decide +kernel
theorem d_M_init_20 : decode b_M_init 20 = .ok (.newarray .int, 2) := by decide +kernel
theorem d_M_init_22 : decode b_M_init 22 = .ok (.putfield 17, 3) := by decide +kernel
theorem d_M_init_25 : decode b_M_init 25 = .ok (.aload_n 0, 1) := by decide +kernel
theorem d_M_init_26 : decode b_M_init 26 = .ok (.bipush 60, 2) := by decide +kernel
theorem d_M_init_28 : decode b_M_init 28 = .ok (.newarray .int, 2) := by decide +kernel
theorem d_M_init_30 : decode b_M_init 30 = .ok (.putfield 21, 3) := by decide +kernel
theorem d_M_init_33 : decode b_M_init 33 = .ok (.aload_n 0, 1) := by decide +kernel
theorem d_M_init_34 : decode b_M_init 34 = .ok (.bipush 60, 2) := by decide +kernel
theorem d_M_init_36 : decode b_M_init 36 = .ok (.newarray .int, 2) := by decide +kernel
theorem d_M_init_38 : decode b_M_init 38 = .ok (.putfield 24, 3) := by decide +kernel
theorem d_M_init_41 : decode b_M_init 41 = .ok (.aload_n 0, 1) := by decide +kernel
theorem d_M_init_42 : decode b_M_init 42 = .ok (.bipush 60, 2) := by decide +kernel
theorem d_M_init_44 : decode b_M_init 44 = .ok (.newarray .int, 2) := by decide +kernel
theorem d_M_init_46 : decode b_M_init 46 = .ok (.putfield 27, 3) := by decide +kernel
theorem d_M_init_49 : decode b_M_init 49 = .ok (.aload_n 0, 1) := by decide +kernel
theorem d_M_init_50 : decode b_M_init 50 = .ok (.sipush 720, 3) := by decide +kernel
theorem d_M_init_53 : decode b_M_init 53 = .ok (.newarray .int, 2) := by decide +kernel
theorem d_M_init_55 : decode b_M_init 55 = .ok (.putfield 30, 3) := by decide +kernel
theorem d_M_init_58 : decode b_M_init 58 = .ok (.aload_n 0, 1) := by decide +kernel
theorem d_M_init_59 : decode b_M_init 59 = .ok (.bipush 60, 2) := by decide +kernel
theorem d_M_init_61 : decode b_M_init 61 = .ok (.newarray .boolean, 2) := by decide +kernel
theorem d_M_init_63 : decode b_M_init 63 = .ok (.putfield 33, 3) := by decide +kernel
theorem d_M_init_66 : decode b_M_init 66 = .ok (.aload_n 0, 1) := by decide +kernel
theorem d_M_init_67 : decode b_M_init 67 = .ok (.bipush 60, 2) := by decide +kernel
theorem d_M_init_69 : decode b_M_init 69 = .ok (.newarray .boolean, 2) := by decide +kernel
theorem d_M_init_71 : decode b_M_init 71 = .ok (.putfield 36, 3) := by decide +kernel
theorem d_M_init_74 : decode b_M_init 74 = .ok (.aload_n 0, 1) := by decide +kernel
theorem d_M_init_75 : decode b_M_init 75 = .ok (.bipush 60, 2) := by decide +kernel
theorem d_M_init_77 : decode b_M_init 77 = .ok (.newarray .boolean, 2) := by decide +kernel
theorem d_M_init_79 : decode b_M_init 79 = .ok (.putfield 39, 3) := by decide +kernel
theorem d_M_init_82 : decode b_M_init 82 = .ok (.aload_n 0, 1) := by decide +kernel
theorem d_M_init_83 : decode b_M_init 83 = .ok (.bipush 60, 2) := by decide +kernel
theorem d_M_init_85 : decode b_M_init 85 = .ok (.newarray .int, 2) := by decide +kernel
theorem d_M_init_87 : decode b_M_init 87 = .ok (.putfield 42, 3) := by decide +kernel
theorem d_M_init_90 : decode b_M_init 90 = .ok (.aload_n 0, 1) := by decide +kernel
theorem d_M_init_91 : decode b_M_init 91 = .ok (.bipush 60, 2) := by decide +kernel
theorem d_M_init_93 : decode b_M_init 93 = .ok (.newarray .int, 2) := by decide +kernel
theorem d_M_init_95 : decode b_M_init 95 = .ok (.putfield 45, 3) := by decide +kernel
theorem d_M_init_98 : decode b_M_init 98 = .ok (.aload_n 0, 1) := by decide +kernel
theorem d_M_init_99 : decode b_M_init 99 = .ok (.getfield 17, 3) := by decide +kernel
theorem d_M_init_102 : decode b_M_init 102 = .ok (.iconst 0, 1) := by decide +kernel
theorem d_M_init_103 : decode b_M_init 103 = .ok (.bipush 50, 2) := by decide +kernel
theorem d_M_init_105 : decode b_M_init 105 = .ok (.iastore, 1) := by decide +kernel
theorem d_M_init_106 : decode b_M_init 106 = .ok (.aload_n 0, 1) := by decide +kernel
theorem d_M_init_107 : decode b_M_init 107 = .ok (.getfield 21, 3) := by decide +kernel
theorem d_M_init_110 : decode b_M_init 110 = .ok (.iconst 0, 1) := by decide +kernel
theorem d_M_init_111 : decode b_M_init 111 = .ok (.bipush 50, 2) := by decide +kernel
theorem d_M_init_113 : decode b_M_init 113 = .ok (.iastore, 1) := by decide +kernel
theorem d_M_init_114 : decode b_M_init 114 = .ok (.return_, 1) := by decide +kernel
theorem d_M_thrown_0 : decode b_M_thrown 0 = .ok (.aload_n 0, 1) := by decide +kernel
theorem d_M_thrown_1 : decode b_M_thrown 1 = .ok (.getfield 48, 3) := by decide +kernel
theorem d_M_thrown_4 : decode b_M_thrown 4 = .ok (.ireturn, 1) := by decide +kernel
theorem d_M_states_0 : decode b_M_states 0 = .ok (.aload_n 0, 1) := by decide +kernel
theorem d_M_states_1 : decode b_M_states 1 = .ok (.iload_n 1, 1) := by decide +kernel
theorem d_M_states_2 : decode b_M_states 2 = .ok (.iconst 1, 1) := by decide +kernel
theorem d_M_states_3 : decode b_M_states 3 = .ok (.if_icmp .lt 9, 3) := by decide +kernel
theorem d_M_states_6 : decode b_M_states 6 = .ok (.iload_n 1, 1) := by decide +kernel
theorem d_M_states_7 : decode b_M_states 7 = .ok (.bipush 60, 2) := by decide +kernel
theorem d_M_states_9 : decode b_M_states 9 = .ok (.if_icmp .le 7, 3) := by decide +kernel
theorem d_M_states_12 : decode b_M_states 12 = .ok (.iconst 1, 1) := by decide +kernel
theorem d_M_states_13 : decode b_M_states 13 = .ok (.goto 4, 3) := by decide +kernel
theorem d_M_states_16 : decode b_M_states 16 = .ok (.iconst 0, 1) := by decide +kernel
theorem d_M_states_17 : decode b_M_states 17 = .ok (.putfield 48, 3) := by decide +kernel
theorem d_M_states_20 : decode b_M_states 20 = .ok (.aload_n 0, 1) := by decide +kernel
theorem d_M_states_21 : decode b_M_states 21 = .ok (.getfield 48, 3) := by decide +kernel
theorem d_M_states_24 : decode b_M_states 24 = .ok (.ifCond .eq 4, 3) := by decide +kernel
theorem d_M_states_27 : decode b_M_states 27 = .ok (.return_, 1) := by decide +kernel
theorem d_M_states_28 : decode b_M_states 28 = .ok (.aload_n 0, 1) := by decide +kernel
theorem d_M_states_29 : decode b_M_states 29 = .ok (.iload_n 1, 1) := by decide +kernel
theorem d_M_states_30 : decode b_M_states 30 = .ok (.putfield 7, 3) := by decide +kernel
theorem d_M_states_33 : decode b_M_states 33 = .ok (.iconst 0, 1) := by decide +kernel
theorem d_M_states_34 : decode b_M_states 34 = .ok (.istore_n 2, 1) := by decide +kernel
theorem d_M_states_35 : decode b_M_states 35 = .ok (.iload_n 2, 1) := by decide +kernel
theorem d_M_states_36 : decode b_M_states 36 = .ok (.iload_n 1, 1) := by decide +kernel
theorem d_M_states_37 : decode b_M_states 37 = .ok (.if_icmp .ge 32, 3) := by decide +kernel
theorem d_M_states_40 : decode b_M_states 40 = .ok (.aload_n 0, 1) := by decide +kernel
theorem d_M_states_41 : decode b_M_states 41 = .ok (.getfield 13, 3) := by decide +kernel
theorem d_M_states_44 : decode b_M_states 44 = .ok (.iload_n 2, 1) := by decide +kernel
theorem d_M_states_45 : decode b_M_states 45 = .ok (.iconst 0, 1) := by decide +kernel
theorem d_M_states_46 : decode b_M_states 46 = .ok (.bastore, 1) := by decide +kernel
theorem d_M_states_47 : decode b_M_states 47 = .ok (.aload_n 0, 1) := by decide +kernel
theorem d_M_states_48 : decode b_M_states 48 = .ok (.getfield 17, 3) := by decide +kernel
theorem d_M_states_51 : decode b_M_states 51 = .ok (.iload_n 2, 1) := by decide +kernel
theorem d_M_states_52 : decode b_M_states 52 = .ok (.bipush 50, 2) := by decide +kernel
theorem d_M_states_54 : decode b_M_states 54 = .ok (.iastore, 1) := by decide +kernel
theorem d_M_states_55 : decode b_M_states 55 = .ok (.aload_n 0, 1) := by decide +kernel
theorem d_M_states_56 : decode b_M_states 56 = .ok (.getfield 21, 3) := by decide +kernel
theorem d_M_states_59 : decode b_M_states 59 = .ok (.iload_n 2, 1) := by decide +kernel
theorem d_M_states_60 : decode b_M_states 60 = .ok (.bipush 50, 2) := by decide +kernel
theorem d_M_states_62 : decode b_M_states 62 = .ok (.iastore, 1) := by decide +kernel
theorem d_M_states_63 : decode b_M_states 63 = .ok (.iinc 2 1, 3) := by decide +kernel
theorem d_M_states_66 : decode b_M_states 66 = .ok (.goto (-31), 3) := by decide +kernel
theorem d_M_states_69 : decode b_M_states 69 = .ok (.return_, 1) := by decide +kernel
theorem d_M_end_0 : decode b_M_end 0 = .ok (.aload_n 0, 1) := by decide +kernel
theorem d_M_end_1 : decode b_M_end 1 = .ok (.aload_n 0, 1) := by decide +kernel
theorem d_M_end_2 : decode b_M_end 2 = .ok (.iload_n 1, 1) := by decide +kernel
theorem d_M_end_3 : decode b_M_end 3 = .ok (.invokevirtual 51, 3) := by decide +kernel
theorem d_M_end_6 : decode b_M_end 6 = .ok (.ifCond .ne 7, 3) := by decide +kernel
theorem d_M_end_9 : decode b_M_end 9 = .ok (.iconst 1, 1) := by decide +kernel
theorem d_M_end_10 : decode b_M_end 10 = .ok (.goto 32, 3) := by decide +kernel
theorem d_M_end_13 : decode b_M_end 13 = .ok (.iload_n 2, 1) := by decide +kernel
theorem d_M_end_14 : decode b_M_end 14 = .ok (.bipush (-2), 2) := by decide +kernel
theorem d_M_end_16 : decode b_M_end 16 = .ok (.if_icmp .lt 21, 3) := by decide +kernel
theorem d_M_end_19 : decode b_M_end 19 = .ok (.iload_n 2, 1) := by decide +kernel
theorem d_M_end_20 : decode b_M_end 20 = .ok (.bipush 100, 2) := by decide +kernel
theorem d_M_end_22 : decode b_M_end 22 = .ok (.if_icmp .gt 15, 3) := by decide +kernel
theorem d_M_end_25 : decode b_M_end 25 = .ok (.iload_n 3, 1) := by decide +kernel
theorem d_M_end_26 : decode b_M_end 26 = .ok (.bipush (-2), 2) := by decide +kernel
theorem d_M_end_28 : decode b_M_end 28 = .ok (.if_icmp .lt 9, 3) := by decide +kernel
theorem d_M_end_31 : decode b_M_end 31 = .ok (.iload_n 3, 1) := by decide +kernel
theorem d_M_end_32 : decode b_M_end 32 = .ok (.bipush 100, 2) := by decide +kernel
theorem d_M_end_34 : decode b_M_end 34 = .ok (.if_icmp .le 7, 3) := by decide +kernel
theorem d_M_end_37 : decode b_M_end 37 = .ok (.iconst 2, 1) := by decide +kernel
theorem d_M_end_38 : decode b_M_end 38 = .ok (.goto 4, 3) := by decide +kernel
theorem d_M_end_41 : decode b_M_end 41 = .ok (.iconst 0, 1) := by decide +kernel
theorem d_M_end_42 : decode b_M_end 42 = .ok (.putfield 48, 3) := by decide +kernel
theorem d_M_end_45 : decode b_M_end 45 = .ok (.aload_n 0, 1) := by decide +kernel
theorem d_M_end_46 : decode b_M_end 46 = .ok (.getfield 48, 3) := by decide +kernel
theorem d_M_end_49 : decode b_M_end 49 = .ok (.ifCond .eq 4, 3) := by decide +kernel
theorem d_M_end_52 : decode b_M_end 52 = .ok (.return_, 1) := by decide +kernel
theorem d_M_end_53 : decode b_M_end 53 = .ok (.aload_n 0, 1) := by decide +kernel
theorem d_M_end_54 : decode b_M_end 54 = .ok (.getfield 13, 3) := by decide +kernel
theorem d_M_end_57 : decode b_M_end 57 = .ok (.iload_n 1, 1) := by decide +kernel
theorem d_M_end_58 : decode b_M_end 58 = .ok (.iconst 0, 1) := by decide +kernel
theorem d_M_end_59 : decode b_M_end 59 = .ok (.bastore, 1) := by decide +kernel
theorem d_M_end_60 : decode b_M_end 60 = .ok (.aload_n 0, 1) := by decide +kernel
theorem d_M_end_61 : decode b_M_end 61 = .ok (.getfield 17, 3) := by decide +kernel
theorem d_M_end_64 : decode b_M_end 64 = .ok (.iload_n 1, 1) := by decide +kernel
theorem d_M_end_65 : decode b_M_end 65 = .ok (.iload_n 2, 1) := by decide +kernel
theorem d_M_end_66 : decode b_M_end 66 = .ok (.iastore, 1) := by decide +kernel
theorem d_M_end_67 : decode b_M_end 67 = .ok (.aload_n 0, 1) := by decide +kernel
theorem d_M_end_68 : decode b_M_end 68 = .ok (.getfield 21, 3) := by decide +kernel
theorem d_M_end_71 : decode b_M_end 71 = .ok (.iload_n 1, 1) := by decide +kernel
theorem d_M_end_72 : decode b_M_end 72 = .ok (.iload_n 3, 1) := by decide +kernel
theorem d_M_end_73 : decode b_M_end 73 = .ok (.iastore, 1) := by decide +kernel
theorem d_M_end_74 : decode b_M_end 74 = .ok (.return_, 1) := by decide +kernel
theorem d_M_isState_0 : decode b_M_isState 0 = .ok (.iload_n 1, 1) := by decide +kernel
theorem d_M_isState_1 : decode b_M_isState 1 = .ok (.ifCond .lt 15, 3) := by decide +kernel
theorem d_M_isState_4 : decode b_M_isState 4 = .ok (.iload_n 1, 1) := by decide +kernel
theorem d_M_isState_5 : decode b_M_isState 5 = .ok (.aload_n 0, 1) := by decide +kernel
theorem d_M_isState_6 : decode b_M_isState 6 = .ok (.getfield 7, 3) := by decide +kernel
theorem d_M_isState_9 : decode b_M_isState 9 = .ok (.if_icmp .ge 7, 3) := by decide +kernel
theorem d_M_isState_12 : decode b_M_isState 12 = .ok (.iconst 1, 1) := by decide +kernel
theorem d_M_isState_13 : decode b_M_isState 13 = .ok (.goto 4, 3) := by decide +kernel
theorem d_M_isState_16 : decode b_M_isState 16 = .ok (.iconst 0, 1) := by decide +kernel
theorem d_M_isState_17 : decode b_M_isState 17 = .ok (.ireturn, 1) := by decide +kernel
theorem d_M_open_0 : decode b_M_open 0 = .ok (.aload_n 0, 1) := by decide +kernel
theorem d_M_open_1 : decode b_M_open 1 = .ok (.aload_n 0, 1) := by decide +kernel
theorem d_M_open_2 : decode b_M_open 2 = .ok (.iload_n 1, 1) := by decide +kernel
theorem d_M_open_3 : decode b_M_open 3 = .ok (.invokevirtual 51, 3) := by decide +kernel
theorem d_M_open_6 : decode b_M_open 6 = .ok (.ifCond .ne 7, 3) := by decide +kernel
theorem d_M_open_9 : decode b_M_open 9 = .ok (.iconst 1, 1) := by decide +kernel
theorem d_M_open_10 : decode b_M_open 10 = .ok (.goto 30, 3) := by decide +kernel
theorem d_M_open_13 : decode b_M_open 13 = .ok (.iload_n 2, 1) := by decide +kernel
theorem d_M_open_14 : decode b_M_open 14 = .ok (.invokestatic 55, 3) := by decide +kernel
theorem d_M_open_17 : decode b_M_open 17 = .ok (.ifCond .eq 18, 3) := by decide +kernel
theorem d_M_open_20 : decode b_M_open 20 = .ok (.iload_n 3, 1) := by decide +kernel
theorem d_M_open_21 : decode b_M_open 21 = .ok (.invokestatic 55, 3) := by decide +kernel
theorem d_M_open_24 : decode b_M_open 24 = .ok (.ifCond .eq 11, 3) := by decide +kernel
theorem d_M_open_27 : decode b_M_open 27 = .ok (.iload_n 2, 1) := by decide +kernel
theorem d_M_open_28 : decode b_M_open 28 = .ok (.iload_n 3, 1) := by decide +kernel
theorem d_M_open_29 : decode b_M_open 29 = .ok (.imul, 1) := by decide +kernel
theorem d_M_open_30 : decode b_M_open 30 = .ok (.bipush 12, 2) := by decide +kernel
theorem d_M_open_32 : decode b_M_open 32 = .ok (.if_icmp .le 7, 3) := by decide +kernel
theorem d_M_open_35 : decode b_M_open 35 = .ok (.iconst 2, 1) := by decide +kernel
theorem d_M_open_36 : decode b_M_open 36 = .ok (.goto 4, 3) := by decide +kernel
theorem d_M_open_39 : decode b_M_open 39 = .ok (.iconst 0, 1) := by decide +kernel
theorem d_M_open_40 : decode b_M_open 40 = .ok (.putfield 48, 3) := by decide +kernel
theorem d_M_open_43 : decode b_M_open 43 = .ok (.aload_n 0, 1) := by decide +kernel
theorem d_M_open_44 : decode b_M_open 44 = .ok (.getfield 48, 3) := by decide +kernel
theorem d_M_open_47 : decode b_M_open 47 = .ok (.ifCond .eq 4, 3) := by decide +kernel
theorem d_M_open_50 : decode b_M_open 50 = .ok (.return_, 1) := by decide +kernel
theorem d_M_open_51 : decode b_M_open 51 = .ok (.aload_n 0, 1) := by decide +kernel
theorem d_M_open_52 : decode b_M_open 52 = .ok (.getfield 13, 3) := by decide +kernel
theorem d_M_open_55 : decode b_M_open 55 = .ok (.iload_n 1, 1) := by decide +kernel
theorem d_M_open_56 : decode b_M_open 56 = .ok (.iconst 1, 1) := by decide +kernel
theorem d_M_open_57 : decode b_M_open 57 = .ok (.bastore, 1) := by decide +kernel
theorem d_M_open_58 : decode b_M_open 58 = .ok (.aload_n 0, 1) := by decide +kernel
theorem d_M_open_59 : decode b_M_open 59 = .ok (.getfield 24, 3) := by decide +kernel
theorem d_M_open_62 : decode b_M_open 62 = .ok (.iload_n 1, 1) := by decide +kernel
theorem d_M_open_63 : decode b_M_open 63 = .ok (.iload_n 2, 1) := by decide +kernel
theorem d_M_open_64 : decode b_M_open 64 = .ok (.iastore, 1) := by decide +kernel
theorem d_M_open_65 : decode b_M_open 65 = .ok (.aload_n 0, 1) := by decide +kernel
theorem d_M_open_66 : decode b_M_open 66 = .ok (.getfield 27, 3) := by decide +kernel
theorem d_M_open_69 : decode b_M_open 69 = .ok (.iload_n 1, 1) := by decide +kernel
theorem d_M_open_70 : decode b_M_open 70 = .ok (.iload_n 3, 1) := by decide +kernel
theorem d_M_open_71 : decode b_M_open 71 = .ok (.iastore, 1) := by decide +kernel
theorem d_M_open_72 : decode b_M_open 72 = .ok (.iconst 0, 1) := by decide +kernel
theorem d_M_open_73 : decode b_M_open 73 = .ok (.istore 4, 2) := by decide +kernel
theorem d_M_open_75 : decode b_M_open 75 = .ok (.iload 4, 2) := by decide +kernel
theorem d_M_open_77 : decode b_M_open 77 = .ok (.bipush 12, 2) := by decide +kernel
theorem d_M_open_79 : decode b_M_open 79 = .ok (.if_icmp .ge 22, 3) := by decide +kernel
theorem d_M_open_82 : decode b_M_open 82 = .ok (.aload_n 0, 1) := by decide +kernel
theorem d_M_open_83 : decode b_M_open 83 = .ok (.getfield 30, 3) := by decide +kernel
theorem d_M_open_86 : decode b_M_open 86 = .ok (.bipush 12, 2) := by decide +kernel
theorem d_M_open_88 : decode b_M_open 88 = .ok (.iload_n 1, 1) := by decide +kernel
theorem d_M_open_89 : decode b_M_open 89 = .ok (.imul, 1) := by decide +kernel
theorem d_M_open_90 : decode b_M_open 90 = .ok (.iload 4, 2) := by decide +kernel
theorem d_M_open_92 : decode b_M_open 92 = .ok (.iadd, 1) := by decide +kernel
theorem d_M_open_93 : decode b_M_open 93 = .ok (.iconst 0, 1) := by decide +kernel
theorem d_M_open_94 : decode b_M_open 94 = .ok (.iastore, 1) := by decide +kernel
theorem d_M_open_95 : decode b_M_open 95 = .ok (.iinc 4 1, 3) := by decide +kernel
theorem d_M_open_98 : decode b_M_open 98 = .ok (.goto (-23), 3) := by decide +kernel
theorem d_M_open_101 : decode b_M_open 101 = .ok (.return_, 1) := by decide +kernel
theorem d_M_isMany_0 : decode b_M_isMany 0 = .ok (.iload_n 0, 1) := by decide +kernel
theorem d_M_isMany_1 : decode b_M_isMany 1 = .ok (.ifCond .lt 13, 3) := by decide +kernel
theorem d_M_isMany_4 : decode b_M_isMany 4 = .ok (.iload_n 0, 1) := by decide +kernel
theorem d_M_isMany_5 : decode b_M_isMany 5 = .ok (.bipush 12, 2) := by decide +kernel
theorem d_M_isMany_7 : decode b_M_isMany 7 = .ok (.if_icmp .gt 7, 3) := by decide +kernel
theorem d_M_isMany_10 : decode b_M_isMany 10 = .ok (.iconst 1, 1) := by decide +kernel
theorem d_M_isMany_11 : decode b_M_isMany 11 = .ok (.goto 4, 3) := by decide +kernel
theorem d_M_isMany_14 : decode b_M_isMany 14 = .ok (.iconst 0, 1) := by decide +kernel
theorem d_M_isMany_15 : decode b_M_isMany 15 = .ok (.ireturn, 1) := by decide +kernel
theorem d_M_link_0 : decode b_M_link 0 = .ok (.aload_n 0, 1) := by decide +kernel
theorem d_M_link_1 : decode b_M_link 1 = .ok (.aload_n 0, 1) := by decide +kernel
theorem d_M_link_2 : decode b_M_link 2 = .ok (.iload_n 1, 1) := by decide +kernel
theorem d_M_link_3 : decode b_M_link 3 = .ok (.iload_n 2, 1) := by decide +kernel
theorem d_M_link_4 : decode b_M_link 4 = .ok (.invokevirtual 62, 3) := by decide +kernel
theorem d_M_link_7 : decode b_M_link 7 = .ok (.ifCond .eq 15, 3) := by decide +kernel
theorem d_M_link_10 : decode b_M_link 10 = .ok (.aload_n 0, 1) := by decide +kernel
theorem d_M_link_11 : decode b_M_link 11 = .ok (.iload_n 3, 1) := by decide +kernel
theorem d_M_link_12 : decode b_M_link 12 = .ok (.invokevirtual 51, 3) := by decide +kernel
theorem d_M_link_15 : decode b_M_link 15 = .ok (.ifCond .eq 7, 3) := by decide +kernel
theorem d_M_link_18 : decode b_M_link 18 = .ok (.iconst 0, 1) := by decide +kernel
theorem d_M_link_19 : decode b_M_link 19 = .ok (.goto 4, 3) := by decide +kernel
theorem d_M_link_22 : decode b_M_link 22 = .ok (.iconst 1, 1) := by decide +kernel
theorem d_M_link_23 : decode b_M_link 23 = .ok (.putfield 48, 3) := by decide +kernel
theorem d_M_link_26 : decode b_M_link 26 = .ok (.aload_n 0, 1) := by decide +kernel
theorem d_M_link_27 : decode b_M_link 27 = .ok (.getfield 48, 3) := by decide +kernel
theorem d_M_link_30 : decode b_M_link 30 = .ok (.ifCond .ne 15, 3) := by decide +kernel
theorem d_M_link_33 : decode b_M_link 33 = .ok (.aload_n 0, 1) := by decide +kernel
theorem d_M_link_34 : decode b_M_link 34 = .ok (.getfield 30, 3) := by decide +kernel
theorem d_M_link_37 : decode b_M_link 37 = .ok (.bipush 12, 2) := by decide +kernel
theorem d_M_link_39 : decode b_M_link 39 = .ok (.iload_n 1, 1) := by decide +kernel
theorem d_M_link_40 : decode b_M_link 40 = .ok (.imul, 1) := by decide +kernel
theorem d_M_link_41 : decode b_M_link 41 = .ok (.iload_n 2, 1) := by decide +kernel
theorem d_M_link_42 : decode b_M_link 42 = .ok (.iadd, 1) := by decide +kernel
theorem d_M_link_43 : decode b_M_link 43 = .ok (.iload_n 3, 1) := by decide +kernel
theorem d_M_link_44 : decode b_M_link 44 = .ok (.iastore, 1) := by decide +kernel
theorem d_M_link_45 : decode b_M_link 45 = .ok (.return_, 1) := by decide +kernel
theorem d_M_isJoint_0 : decode b_M_isJoint 0 = .ok (.aload_n 0, 1) := by decide +kernel
theorem d_M_isJoint_1 : decode b_M_isJoint 1 = .ok (.iload_n 1, 1) := by decide +kernel
theorem d_M_isJoint_2 : decode b_M_isJoint 2 = .ok (.invokevirtual 51, 3) := by decide +kernel
theorem d_M_isJoint_5 : decode b_M_isJoint 5 = .ok (.ifCond .eq 20, 3) := by decide +kernel
theorem d_M_isJoint_8 : decode b_M_isJoint 8 = .ok (.iload_n 2, 1) := by decide +kernel
theorem d_M_isJoint_9 : decode b_M_isJoint 9 = .ok (.ifCond .lt 16, 3) := by decide +kernel
theorem d_M_isJoint_12 : decode b_M_isJoint 12 = .ok (.iload_n 2, 1) := by decide +kernel
theorem d_M_isJoint_13 : decode b_M_isJoint 13 = .ok (.aload_n 0, 1) := by decide +kernel
theorem d_M_isJoint_14 : decode b_M_isJoint 14 = .ok (.iload_n 1, 1) := by decide +kernel
theorem d_M_isJoint_15 : decode b_M_isJoint 15 = .ok (.invokevirtual 58, 3) := by decide +kernel
theorem d_M_isJoint_18 : decode b_M_isJoint 18 = .ok (.if_icmp .ge 7, 3) := by decide +kernel
theorem d_M_isJoint_21 : decode b_M_isJoint 21 = .ok (.iconst 1, 1) := by decide +kernel
theorem d_M_isJoint_22 : decode b_M_isJoint 22 = .ok (.goto 4, 3) := by decide +kernel
theorem d_M_isJoint_25 : decode b_M_isJoint 25 = .ok (.iconst 0, 1) := by decide +kernel
theorem d_M_isJoint_26 : decode b_M_isJoint 26 = .ok (.ireturn, 1) := by decide +kernel
theorem d_M_joint_0 : decode b_M_joint 0 = .ok (.aload_n 0, 1) := by decide +kernel
theorem d_M_joint_1 : decode b_M_joint 1 = .ok (.getfield 13, 3) := by decide +kernel
theorem d_M_joint_4 : decode b_M_joint 4 = .ok (.iload_n 1, 1) := by decide +kernel
theorem d_M_joint_5 : decode b_M_joint 5 = .ok (.baload, 1) := by decide +kernel
theorem d_M_joint_6 : decode b_M_joint 6 = .ok (.ifCond .eq 19, 3) := by decide +kernel
theorem d_M_joint_9 : decode b_M_joint 9 = .ok (.aload_n 0, 1) := by decide +kernel
theorem d_M_joint_10 : decode b_M_joint 10 = .ok (.getfield 24, 3) := by decide +kernel
theorem d_M_joint_13 : decode b_M_joint 13 = .ok (.iload_n 1, 1) := by decide +kernel
theorem d_M_joint_14 : decode b_M_joint 14 = .ok (.iaload, 1) := by decide +kernel
theorem d_M_joint_15 : decode b_M_joint 15 = .ok (.aload_n 0, 1) := by decide +kernel
theorem d_M_joint_16 : decode b_M_joint 16 = .ok (.getfield 27, 3) := by decide +kernel
theorem d_M_joint_19 : decode b_M_joint 19 = .ok (.iload_n 1, 1) := by decide +kernel
theorem d_M_joint_20 : decode b_M_joint 20 = .ok (.iaload, 1) := by decide +kernel
theorem d_M_joint_21 : decode b_M_joint 21 = .ok (.imul, 1) := by decide +kernel
theorem d_M_joint_22 : decode b_M_joint 22 = .ok (.goto 4, 3) := by decide +kernel
theorem d_M_joint_25 : decode b_M_joint 25 = .ok (.iconst 0, 1) := by decide +kernel
theorem d_M_joint_26 : decode b_M_joint 26 = .ok (.ireturn, 1) := by decide +kernel
theorem d_M_next_0 : decode b_M_next 0 = .ok (.aload_n 0, 1) := by decide +kernel
theorem d_M_next_1 : decode b_M_next 1 = .ok (.aload_n 0, 1) := by decide +kernel
theorem d_M_next_2 : decode b_M_next 2 = .ok (.iload_n 1, 1) := by decide +kernel
theorem d_M_next_3 : decode b_M_next 3 = .ok (.iload_n 2, 1) := by decide +kernel
theorem d_M_next_4 : decode b_M_next 4 = .ok (.invokevirtual 62, 3) := by decide +kernel
theorem d_M_next_7 : decode b_M_next 7 = .ok (.ifCond .eq 7, 3) := by decide +kernel
theorem d_M_next_10 : decode b_M_next 10 = .ok (.iconst 0, 1) := by decide +kernel
theorem d_M_next_11 : decode b_M_next 11 = .ok (.goto 4, 3) := by decide +kernel
theorem d_M_next_14 : decode b_M_next 14 = .ok (.iconst 1, 1) := by decide +kernel
theorem d_M_next_15 : decode b_M_next 15 = .ok (.putfield 48, 3) := by decide +kernel
theorem d_M_next_18 : decode b_M_next 18 = .ok (.aload_n 0, 1) := by decide +kernel
theorem d_M_next_19 : decode b_M_next 19 = .ok (.getfield 48, 3) := by decide +kernel
theorem d_M_next_22 : decode b_M_next 22 = .ok (.ifCond .eq 7, 3) := by decide +kernel
theorem d_M_next_25 : decode b_M_next 25 = .ok (.iconst 0, 1) := by decide +kernel
theorem d_M_next_26 : decode b_M_next 26 = .ok (.goto 14, 3) := by decide +kernel
theorem d_M_next_29 : decode b_M_next 29 = .ok (.aload_n 0, 1) := by decide +kernel
theorem d_M_next_30 : decode b_M_next 30 = .ok (.getfield 30, 3) := by decide +kernel
theorem d_M_next_33 : decode b_M_next 33 = .ok (.bipush 12, 2) := by decide +kernel
theorem d_M_next_35 : decode b_M_next 35 = .ok (.iload_n 1, 1) := by decide +kernel
theorem d_M_next_36 : decode b_M_next 36 = .ok (.imul, 1) := by decide +kernel
theorem d_M_next_37 : decode b_M_next 37 = .ok (.iload_n 2, 1) := by decide +kernel
theorem d_M_next_38 : decode b_M_next 38 = .ok (.iadd, 1) := by decide +kernel
theorem d_M_next_39 : decode b_M_next 39 = .ok (.iaload, 1) := by decide +kernel
theorem d_M_next_40 : decode b_M_next 40 = .ok (.ireturn, 1) := by decide +kernel
theorem d_M_reached_0 : decode b_M_reached 0 = .ok (.aload_n 0, 1) := by decide +kernel
theorem d_M_reached_1 : decode b_M_reached 1 = .ok (.iconst 0, 1) := by decide +kernel
theorem d_M_reached_2 : decode b_M_reached 2 = .ok (.putfield 48, 3) := by decide +kernel
theorem d_M_reached_5 : decode b_M_reached 5 = .ok (.aload_n 0, 1) := by decide +kernel
theorem d_M_reached_6 : decode b_M_reached 6 = .ok (.invokevirtual 70, 3) := by decide +kernel
theorem d_M_reached_9 : decode b_M_reached 9 = .ok (.iconst 0, 1) := by decide +kernel
theorem d_M_reached_10 : decode b_M_reached 10 = .ok (.istore_n 1, 1) := by decide +kernel
theorem d_M_reached_11 : decode b_M_reached 11 = .ok (.iconst 0, 1) := by decide +kernel
theorem d_M_reached_12 : decode b_M_reached 12 = .ok (.istore_n 2, 1) := by decide +kernel
theorem d_M_reached_13 : decode b_M_reached 13 = .ok (.iload_n 2, 1) := by decide +kernel
theorem d_M_reached_14 : decode b_M_reached 14 = .ok (.aload_n 0, 1) := by decide +kernel
theorem d_M_reached_15 : decode b_M_reached 15 = .ok (.getfield 7, 3) := by decide +kernel
theorem d_M_reached_18 : decode b_M_reached 18 = .ok (.if_icmp .ge 21, 3) := by decide +kernel
theorem d_M_reached_21 : decode b_M_reached 21 = .ok (.aload_n 0, 1) := by decide +kernel
theorem d_M_reached_22 : decode b_M_reached 22 = .ok (.getfield 33, 3) := by decide +kernel
theorem d_M_reached_25 : decode b_M_reached 25 = .ok (.iload_n 2, 1) := by decide +kernel
theorem d_M_reached_26 : decode b_M_reached 26 = .ok (.baload, 1) := by decide +kernel
theorem d_M_reached_27 : decode b_M_reached 27 = .ok (.ifCond .eq 6, 3) := by decide +kernel
theorem d_M_reached_30 : decode b_M_reached 30 = .ok (.iinc 1 1, 3) := by decide +kernel
theorem d_M_reached_33 : decode b_M_reached 33 = .ok (.iinc 2 1, 3) := by decide +kernel
theorem d_M_reached_36 : decode b_M_reached 36 = .ok (.goto (-23), 3) := by decide +kernel
theorem d_M_reached_39 : decode b_M_reached 39 = .ok (.iload_n 1, 1) := by decide +kernel
theorem d_M_reached_40 : decode b_M_reached 40 = .ok (.ireturn, 1) := by decide +kernel
theorem d_M_reach_0 : decode b_M_reach 0 = .ok (.iconst 0, 1) := by decide +kernel
theorem d_M_reach_1 : decode b_M_reach 1 = .ok (.istore_n 1, 1) := by decide +kernel
theorem d_M_reach_2 : decode b_M_reach 2 = .ok (.iload_n 1, 1) := by decide +kernel
theorem d_M_reach_3 : decode b_M_reach 3 = .ok (.bipush 60, 2) := by decide +kernel
theorem d_M_reach_5 : decode b_M_reach 5 = .ok (.if_icmp .ge 24, 3) := by decide +kernel
theorem d_M_reach_8 : decode b_M_reach 8 = .ok (.aload_n 0, 1) := by decide +kernel
theorem d_M_reach_9 : decode b_M_reach 9 = .ok (.getfield 33, 3) := by decide +kernel
theorem d_M_reach_12 : decode b_M_reach 12 = .ok (.iload_n 1, 1) := by decide +kernel
theorem d_M_reach_13 : decode b_M_reach 13 = .ok (.iload_n 1, 1) := by decide +kernel
theorem d_M_reach_14 : decode b_M_reach 14 = .ok (.ifCond .ne 7, 3) := by decide +kernel
theorem d_M_reach_17 : decode b_M_reach 17 = .ok (.iconst 1, 1) := by decide +kernel
theorem d_M_reach_18 : decode b_M_reach 18 = .ok (.goto 4, 3) := by decide +kernel
theorem d_M_reach_21 : decode b_M_reach 21 = .ok (.iconst 0, 1) := by decide +kernel
theorem d_M_reach_22 : decode b_M_reach 22 = .ok (.bastore, 1) := by decide +kernel
theorem d_M_reach_23 : decode b_M_reach 23 = .ok (.iinc 1 1, 3) := by decide +kernel
theorem d_M_reach_26 : decode b_M_reach 26 = .ok (.goto (-24), 3) := by decide +kernel
theorem d_M_reach_29 : decode b_M_reach 29 = .ok (.aload_n 0, 1) := by decide +kernel
theorem d_M_reach_30 : decode b_M_reach 30 = .ok (.aload_n 0, 1) := by decide +kernel
theorem d_M_reach_31 : decode b_M_reach 31 = .ok (.getfield 33, 3) := by decide +kernel
theorem d_M_reach_34 : decode b_M_reach 34 = .ok (.invokevirtual 66, 3) := by decide +kernel
theorem d_M_reach_37 : decode b_M_reach 37 = .ok (.return_, 1) := by decide +kernel
theorem d_M_spread_0 : decode b_M_spread 0 = .ok (.iconst 0, 1) := by decide +kernel
theorem d_M_spread_1 : decode b_M_spread 1 = .ok (.istore_n 2, 1) := by decide +kernel
theorem d_M_spread_2 : decode b_M_spread 2 = .ok (.iload_n 2, 1) := by decide +kernel
theorem d_M_spread_3 : decode b_M_spread 3 = .ok (.aload_n 0, 1) := by decide +kernel
theorem d_M_spread_4 : decode b_M_spread 4 = .ok (.getfield 7, 3) := by decide +kernel
theorem d_M_spread_7 : decode b_M_spread 7 = .ok (.if_icmp .ge 65, 3) := by decide +kernel
theorem d_M_spread_10 : decode b_M_spread 10 = .ok (.iconst 0, 1) := by decide +kernel
theorem d_M_spread_11 : decode b_M_spread 11 = .ok (.istore_n 3, 1) := by decide +kernel
theorem d_M_spread_12 : decode b_M_spread 12 = .ok (.iload_n 3, 1) := by decide +kernel
theorem d_M_spread_13 : decode b_M_spread 13 = .ok (.aload_n 0, 1) := by decide +kernel
theorem d_M_spread_14 : decode b_M_spread 14 = .ok (.getfield 7, 3) := by decide +kernel
theorem d_M_spread_17 : decode b_M_spread 17 = .ok (.if_icmp .ge 49, 3) := by decide +kernel
theorem d_M_spread_20 : decode b_M_spread 20 = .ok (.iconst 0, 1) := by decide +kernel
theorem d_M_spread_21 : decode b_M_spread 21 = .ok (.istore 4, 2) := by decide +kernel
theorem d_M_spread_23 : decode b_M_spread 23 = .ok (.iload 4, 2) := by decide +kernel
theorem d_M_spread_25 : decode b_M_spread 25 = .ok (.aload_n 0, 1) := by decide +kernel
theorem d_M_spread_26 : decode b_M_spread 26 = .ok (.iload_n 3, 1) := by decide +kernel
theorem d_M_spread_27 : decode b_M_spread 27 = .ok (.invokevirtual 58, 3) := by decide +kernel
theorem d_M_spread_30 : decode b_M_spread 30 = .ok (.if_icmp .ge 30, 3) := by decide +kernel
theorem d_M_spread_33 : decode b_M_spread 33 = .ok (.aload_n 1, 1) := by decide +kernel
theorem d_M_spread_34 : decode b_M_spread 34 = .ok (.iload_n 3, 1) := by decide +kernel
theorem d_M_spread_35 : decode b_M_spread 35 = .ok (.baload, 1) := by decide +kernel
theorem d_M_spread_36 : decode b_M_spread 36 = .ok (.ifCond .eq 24, 3) := by decide +kernel
theorem d_M_spread_39 : decode b_M_spread 39 = .ok (.aload_n 1, 1) := by decide +kernel
theorem d_M_spread_40 : decode b_M_spread 40 = .ok (.aload_n 0, 1) := by decide +kernel
theorem d_M_spread_41 : decode b_M_spread 41 = .ok (.getfield 30, 3) := by decide +kernel
theorem d_M_spread_44 : decode b_M_spread 44 = .ok (.bipush 12, 2) := by decide +kernel
theorem d_M_spread_46 : decode b_M_spread 46 = .ok (.iload_n 3, 1) := by decide +kernel
theorem d_M_spread_47 : decode b_M_spread 47 = .ok (.imul, 1) := by decide +kernel
theorem d_M_spread_48 : decode b_M_spread 48 = .ok (.iload 4, 2) := by decide +kernel
theorem d_M_spread_50 : decode b_M_spread 50 = .ok (.iadd, 1) := by decide +kernel
theorem d_M_spread_51 : decode b_M_spread 51 = .ok (.iaload, 1) := by decide +kernel
theorem d_M_spread_52 : decode b_M_spread 52 = .ok (.iconst 1, 1) := by decide +kernel
theorem d_M_spread_53 : decode b_M_spread 53 = .ok (.bastore, 1) := by decide +kernel
theorem d_M_spread_54 : decode b_M_spread 54 = .ok (.iinc 4 1, 3) := by decide +kernel
theorem d_M_spread_57 : decode b_M_spread 57 = .ok (.goto (-34), 3) := by decide +kernel
theorem d_M_spread_60 : decode b_M_spread 60 = .ok (.iinc 3 1, 3) := by decide +kernel
theorem d_M_spread_63 : decode b_M_spread 63 = .ok (.goto (-51), 3) := by decide +kernel
theorem d_M_spread_66 : decode b_M_spread 66 = .ok (.iinc 2 1, 3) := by decide +kernel
theorem d_M_spread_69 : decode b_M_spread 69 = .ok (.goto (-67), 3) := by decide +kernel
theorem d_M_spread_72 : decode b_M_spread 72 = .ok (.return_, 1) := by decide +kernel
theorem d_M_defect_0 : decode b_M_defect 0 = .ok (.aload_n 0, 1) := by decide +kernel
theorem d_M_defect_1 : decode b_M_defect 1 = .ok (.iload_n 1, 1) := by decide +kernel
theorem d_M_defect_2 : decode b_M_defect 2 = .ok (.ifCond .eq 8, 3) := by decide +kernel
theorem d_M_defect_5 : decode b_M_defect 5 = .ok (.iload_n 1, 1) := by decide +kernel
theorem d_M_defect_6 : decode b_M_defect 6 = .ok (.iconst 1, 1) := by decide +kernel
theorem d_M_defect_7 : decode b_M_defect 7 = .ok (.if_icmp .ne 7, 3) := by decide +kernel
theorem d_M_defect_10 : decode b_M_defect 10 = .ok (.iconst 0, 1) := by decide +kernel
theorem d_M_defect_11 : decode b_M_defect 11 = .ok (.goto 4, 3) := by decide +kernel
theorem d_M_defect_14 : decode b_M_defect 14 = .ok (.iconst 1, 1) := by decide +kernel
theorem d_M_defect_15 : decode b_M_defect 15 = .ok (.putfield 48, 3) := by decide +kernel
theorem d_M_defect_18 : decode b_M_defect 18 = .ok (.aload_n 0, 1) := by decide +kernel
theorem d_M_defect_19 : decode b_M_defect 19 = .ok (.getfield 48, 3) := by decide +kernel
theorem d_M_defect_22 : decode b_M_defect 22 = .ok (.ifCond .eq 5, 3) := by decide +kernel
theorem d_M_defect_25 : decode b_M_defect 25 = .ok (.iconst 0, 1) := by decide +kernel
theorem d_M_defect_26 : decode b_M_defect 26 = .ok (.ireturn, 1) := by decide +kernel
theorem d_M_defect_27 : decode b_M_defect 27 = .ok (.aload_n 0, 1) := by decide +kernel
theorem d_M_defect_28 : decode b_M_defect 28 = .ok (.invokevirtual 79, 3) := by decide +kernel
theorem d_M_defect_31 : decode b_M_defect 31 = .ok (.istore_n 2, 1) := by decide +kernel
theorem d_M_defect_32 : decode b_M_defect 32 = .ok (.iload_n 1, 1) := by decide +kernel
theorem d_M_defect_33 : decode b_M_defect 33 = .ok (.iconst 1, 1) := by decide +kernel
theorem d_M_defect_34 : decode b_M_defect 34 = .ok (.if_icmp .ne 7, 3) := by decide +kernel
theorem d_M_defect_37 : decode b_M_defect 37 = .ok (.iload_n 2, 1) := by decide +kernel
theorem d_M_defect_38 : decode b_M_defect 38 = .ok (.goto 30, 3) := by decide +kernel
theorem d_M_defect_41 : decode b_M_defect 41 = .ok (.iload_n 2, 1) := by decide +kernel
theorem d_M_defect_42 : decode b_M_defect 42 = .ok (.iconst (-1), 1) := by decide +kernel
theorem d_M_defect_43 : decode b_M_defect 43 = .ok (.if_icmp .ne 7, 3) := by decide +kernel
theorem d_M_defect_46 : decode b_M_defect 46 = .ok (.iconst 0, 1) := by decide +kernel
theorem d_M_defect_47 : decode b_M_defect 47 = .ok (.goto 21, 3) := by decide +kernel
theorem d_M_defect_50 : decode b_M_defect 50 = .ok (.aload_n 0, 1) := by decide +kernel
theorem d_M_defect_51 : decode b_M_defect 51 = .ok (.iload_n 2, 1) := by decide +kernel
theorem d_M_defect_52 : decode b_M_defect 52 = .ok (.invokevirtual 73, 3) := by decide +kernel
theorem d_M_defect_55 : decode b_M_defect 55 = .ok (.ifCond .eq 11, 3) := by decide +kernel
theorem d_M_defect_58 : decode b_M_defect 58 = .ok (.aload_n 0, 1) := by decide +kernel
theorem d_M_defect_59 : decode b_M_defect 59 = .ok (.iload_n 2, 1) := by decide +kernel
theorem d_M_defect_60 : decode b_M_defect 60 = .ok (.invokevirtual 73, 3) := by decide +kernel
theorem d_M_defect_63 : decode b_M_defect 63 = .ok (.goto 5, 3) := by decide +kernel
theorem d_M_defect_66 : decode b_M_defect 66 = .ok (.bipush 6, 2) := by decide +kernel
theorem d_M_defect_68 : decode b_M_defect 68 = .ok (.ireturn, 1) := by decide +kernel
theorem d_M_defective_0 : decode b_M_defective 0 = .ok (.aload_n 0, 1) := by decide +kernel
theorem d_M_defective_1 : decode b_M_defective 1 = .ok (.invokevirtual 70, 3) := by decide +kernel
theorem d_M_defective_4 : decode b_M_defective 4 = .ok (.iconst 0, 1) := by decide +kernel
theorem d_M_defective_5 : decode b_M_defective 5 = .ok (.istore_n 1, 1) := by decide +kernel
theorem d_M_defective_6 : decode b_M_defective 6 = .ok (.iload_n 1, 1) := by decide +kernel
theorem d_M_defective_7 : decode b_M_defective 7 = .ok (.aload_n 0, 1) := by decide +kernel
theorem d_M_defective_8 : decode b_M_defective 8 = .ok (.getfield 7, 3) := by decide +kernel
theorem d_M_defective_11 : decode b_M_defective 11 = .ok (.if_icmp .ge 28, 3) := by decide +kernel
theorem d_M_defective_14 : decode b_M_defective 14 = .ok (.aload_n 0, 1) := by decide +kernel
theorem d_M_defective_15 : decode b_M_defective 15 = .ok (.getfield 33, 3) := by decide +kernel
theorem d_M_defective_18 : decode b_M_defective 18 = .ok (.iload_n 1, 1) := by decide +kernel
theorem d_M_defective_19 : decode b_M_defective 19 = .ok (.baload, 1) := by decide +kernel
theorem d_M_defective_20 : decode b_M_defective 20 = .ok (.ifCond .eq 13, 3) := by decide +kernel
theorem d_M_defective_23 : decode b_M_defective 23 = .ok (.aload_n 0, 1) := by decide +kernel
theorem d_M_defective_24 : decode b_M_defective 24 = .ok (.iload_n 1, 1) := by decide +kernel
theorem d_M_defective_25 : decode b_M_defective 25 = .ok (.invokevirtual 73, 3) := by decide +kernel
theorem d_M_defective_28 : decode b_M_defective 28 = .ok (.ifCond .eq 5, 3) := by decide +kernel
theorem d_M_defective_31 : decode b_M_defective 31 = .ok (.iload_n 1, 1) := by decide +kernel
theorem d_M_defective_32 : decode b_M_defective 32 = .ok (.ireturn, 1) := by decide +kernel
theorem d_M_defective_33 : decode b_M_defective 33 = .ok (.iinc 1 1, 3) := by decide +kernel
theorem d_M_defective_36 : decode b_M_defective 36 = .ok (.goto (-30), 3) := by decide +kernel
theorem d_M_defective_39 : decode b_M_defective 39 = .ok (.iconst 0, 1) := by decide +kernel
theorem d_M_defective_40 : decode b_M_defective 40 = .ok (.istore_n 1, 1) := by decide +kernel
theorem d_M_defective_41 : decode b_M_defective 41 = .ok (.iload_n 1, 1) := by decide +kernel
theorem d_M_defective_42 : decode b_M_defective 42 = .ok (.aload_n 0, 1) := by decide +kernel
theorem d_M_defective_43 : decode b_M_defective 43 = .ok (.getfield 7, 3) := by decide +kernel
theorem d_M_defective_46 : decode b_M_defective 46 = .ok (.if_icmp .ge 28, 3) := by decide +kernel
theorem d_M_defective_49 : decode b_M_defective 49 = .ok (.aload_n 0, 1) := by decide +kernel
theorem d_M_defective_50 : decode b_M_defective 50 = .ok (.getfield 33, 3) := by decide +kernel
theorem d_M_defective_53 : decode b_M_defective 53 = .ok (.iload_n 1, 1) := by decide +kernel
theorem d_M_defective_54 : decode b_M_defective 54 = .ok (.baload, 1) := by decide +kernel
theorem d_M_defective_55 : decode b_M_defective 55 = .ok (.ifCond .eq 13, 3) := by decide +kernel
theorem d_M_defective_58 : decode b_M_defective 58 = .ok (.aload_n 0, 1) := by decide +kernel
theorem d_M_defective_59 : decode b_M_defective 59 = .ok (.iload_n 1, 1) := by decide +kernel
theorem d_M_defective_60 : decode b_M_defective 60 = .ok (.invokevirtual 76, 3) := by decide +kernel
theorem d_M_defective_63 : decode b_M_defective 63 = .ok (.ifCond .eq 5, 3) := by decide +kernel
theorem d_M_defective_66 : decode b_M_defective 66 = .ok (.iload_n 1, 1) := by decide +kernel
theorem d_M_defective_67 : decode b_M_defective 67 = .ok (.ireturn, 1) := by decide +kernel
theorem d_M_defective_68 : decode b_M_defective 68 = .ok (.iinc 1 1, 3) := by decide +kernel
theorem d_M_defective_71 : decode b_M_defective 71 = .ok (.goto (-30), 3) := by decide +kernel
theorem d_M_defective_74 : decode b_M_defective 74 = .ok (.iconst (-1), 1) := by decide +kernel
end
section
-- ===== printed by gen/names.py: decode rows =====
theorem d_M_defective_75 : decode b_M_defective 75 = .ok (.ireturn, 1) := by decide +kernel
theorem d_M_own_0 : decode b_M_own 0 = .ok (.aload_n 0, 1) := by decide +kernel
theorem d_M_own_1 : decode b_M_own 1 = .ok (.getfield 13, 3) := by decide +kernel
theorem d_M_own_4 : decode b_M_own 4 = .ok (.iload_n 1, 1) := by decide +kernel
theorem d_M_own_5 : decode b_M_own 5 = .ok (.baload, 1) := by decide +kernel
theorem d_M_own_6 : decode b_M_own 6 = .ok (.ifCond .eq 51, 3) := by decide +kernel
theorem d_M_own_9 : decode b_M_own 9 = .ok (.aload_n 0, 1) := by decide +kernel
theorem d_M_own_10 : decode b_M_own 10 = .ok (.getfield 24, 3) := by decide +kernel
theorem d_M_own_13 : decode b_M_own 13 = .ok (.iload_n 1, 1) := by decide +kernel
theorem d_M_own_14 : decode b_M_own 14 = .ok (.iaload, 1) := by decide +kernel
theorem d_M_own_15 : decode b_M_own 15 = .ok (.ifCond .eq 12, 3) := by decide +kernel
theorem d_M_own_18 : decode b_M_own 18 = .ok (.aload_n 0, 1) := by decide +kernel
theorem d_M_own_19 : decode b_M_own 19 = .ok (.getfield 27, 3) := by decide +kernel
theorem d_M_own_22 : decode b_M_own 22 = .ok (.iload_n 1, 1) := by decide +kernel
theorem d_M_own_23 : decode b_M_own 23 = .ok (.iaload, 1) := by decide +kernel
theorem d_M_own_24 : decode b_M_own 24 = .ok (.ifCond .ne 7, 3) := by decide +kernel
theorem d_M_own_27 : decode b_M_own 27 = .ok (.iconst 2, 1) := by decide +kernel
theorem d_M_own_28 : decode b_M_own 28 = .ok (.goto 28, 3) := by decide +kernel
theorem d_M_own_31 : decode b_M_own 31 = .ok (.aload_n 0, 1) := by decide +kernel
theorem d_M_own_32 : decode b_M_own 32 = .ok (.getfield 24, 3) := by decide +kernel
theorem d_M_own_35 : decode b_M_own 35 = .ok (.iload_n 1, 1) := by decide +kernel
theorem d_M_own_36 : decode b_M_own 36 = .ok (.iaload, 1) := by decide +kernel
theorem d_M_own_37 : decode b_M_own 37 = .ok (.iconst 1, 1) := by decide +kernel
theorem d_M_own_38 : decode b_M_own 38 = .ok (.if_icmp .le 17, 3) := by decide +kernel
theorem d_M_own_41 : decode b_M_own 41 = .ok (.aload_n 0, 1) := by decide +kernel
theorem d_M_own_42 : decode b_M_own 42 = .ok (.getfield 27, 3) := by decide +kernel
theorem d_M_own_45 : decode b_M_own 45 = .ok (.iload_n 1, 1) := by decide +kernel
theorem d_M_own_46 : decode b_M_own 46 = .ok (.iaload, 1) := by decide +kernel
theorem d_M_own_47 : decode b_M_own 47 = .ok (.iconst 1, 1) := by decide +kernel
theorem d_M_own_48 : decode b_M_own 48 = .ok (.if_icmp .le 7, 3) := by decide +kernel
theorem d_M_own_51 : decode b_M_own 51 = .ok (.iconst 3, 1) := by decide +kernel
theorem d_M_own_52 : decode b_M_own 52 = .ok (.goto 4, 3) := by decide +kernel
theorem d_M_own_55 : decode b_M_own 55 = .ok (.iconst 0, 1) := by decide +kernel
theorem d_M_own_56 : decode b_M_own 56 = .ok (.ireturn, 1) := by decide +kernel
theorem d_M_own_57 : decode b_M_own 57 = .ok (.aload_n 0, 1) := by decide +kernel
theorem d_M_own_58 : decode b_M_own 58 = .ok (.getfield 17, 3) := by decide +kernel
theorem d_M_own_61 : decode b_M_own 61 = .ok (.iload_n 1, 1) := by decide +kernel
theorem d_M_own_62 : decode b_M_own 62 = .ok (.iaload, 1) := by decide +kernel
theorem d_M_own_63 : decode b_M_own 63 = .ok (.ifCond .lt 12, 3) := by decide +kernel
theorem d_M_own_66 : decode b_M_own 66 = .ok (.aload_n 0, 1) := by decide +kernel
theorem d_M_own_67 : decode b_M_own 67 = .ok (.getfield 21, 3) := by decide +kernel
theorem d_M_own_70 : decode b_M_own 70 = .ok (.iload_n 1, 1) := by decide +kernel
theorem d_M_own_71 : decode b_M_own 71 = .ok (.iaload, 1) := by decide +kernel
theorem d_M_own_72 : decode b_M_own 72 = .ok (.ifCond .ge 7, 3) := by decide +kernel
theorem d_M_own_75 : decode b_M_own 75 = .ok (.iconst 4, 1) := by decide +kernel
theorem d_M_own_76 : decode b_M_own 76 = .ok (.goto 26, 3) := by decide +kernel
theorem d_M_own_79 : decode b_M_own 79 = .ok (.aload_n 0, 1) := by decide +kernel
theorem d_M_own_80 : decode b_M_own 80 = .ok (.getfield 17, 3) := by decide +kernel
theorem d_M_own_83 : decode b_M_own 83 = .ok (.iload_n 1, 1) := by decide +kernel
theorem d_M_own_84 : decode b_M_own 84 = .ok (.iaload, 1) := by decide +kernel
theorem d_M_own_85 : decode b_M_own 85 = .ok (.aload_n 0, 1) := by decide +kernel
theorem d_M_own_86 : decode b_M_own 86 = .ok (.getfield 21, 3) := by decide +kernel
theorem d_M_own_89 : decode b_M_own 89 = .ok (.iload_n 1, 1) := by decide +kernel
theorem d_M_own_90 : decode b_M_own 90 = .ok (.iaload, 1) := by decide +kernel
theorem d_M_own_91 : decode b_M_own 91 = .ok (.iadd, 1) := by decide +kernel
theorem d_M_own_92 : decode b_M_own 92 = .ok (.bipush 100, 2) := by decide +kernel
theorem d_M_own_94 : decode b_M_own 94 = .ok (.if_icmp .eq 7, 3) := by decide +kernel
theorem d_M_own_97 : decode b_M_own 97 = .ok (.iconst 5, 1) := by decide +kernel
theorem d_M_own_98 : decode b_M_own 98 = .ok (.goto 4, 3) := by decide +kernel
theorem d_M_own_101 : decode b_M_own 101 = .ok (.iconst 0, 1) := by decide +kernel
theorem d_M_own_102 : decode b_M_own 102 = .ok (.ireturn, 1) := by decide +kernel
theorem d_M_comesAgain_0 : decode b_M_comesAgain 0 = .ok (.iconst 0, 1) := by decide +kernel
theorem d_M_comesAgain_1 : decode b_M_comesAgain 1 = .ok (.istore_n 2, 1) := by decide +kernel
theorem d_M_comesAgain_2 : decode b_M_comesAgain 2 = .ok (.iload_n 2, 1) := by decide +kernel
theorem d_M_comesAgain_3 : decode b_M_comesAgain 3 = .ok (.bipush 60, 2) := by decide +kernel
theorem d_M_comesAgain_5 : decode b_M_comesAgain 5 = .ok (.if_icmp .ge 16, 3) := by decide +kernel
theorem d_M_comesAgain_8 : decode b_M_comesAgain 8 = .ok (.aload_n 0, 1) := by decide +kernel
theorem d_M_comesAgain_9 : decode b_M_comesAgain 9 = .ok (.getfield 36, 3) := by decide +kernel
theorem d_M_comesAgain_12 : decode b_M_comesAgain 12 = .ok (.iload_n 2, 1) := by decide +kernel
theorem d_M_comesAgain_13 : decode b_M_comesAgain 13 = .ok (.iconst 0, 1) := by decide +kernel
theorem d_M_comesAgain_14 : decode b_M_comesAgain 14 = .ok (.bastore, 1) := by decide +kernel
theorem d_M_comesAgain_15 : decode b_M_comesAgain 15 = .ok (.iinc 2 1, 3) := by decide +kernel
theorem d_M_comesAgain_18 : decode b_M_comesAgain 18 = .ok (.goto (-16), 3) := by decide +kernel
theorem d_M_comesAgain_21 : decode b_M_comesAgain 21 = .ok (.iconst 0, 1) := by decide +kernel
theorem d_M_comesAgain_22 : decode b_M_comesAgain 22 = .ok (.istore_n 2, 1) := by decide +kernel
theorem d_M_comesAgain_23 : decode b_M_comesAgain 23 = .ok (.iload_n 2, 1) := by decide +kernel
theorem d_M_comesAgain_24 : decode b_M_comesAgain 24 = .ok (.aload_n 0, 1) := by decide +kernel
theorem d_M_comesAgain_25 : decode b_M_comesAgain 25 = .ok (.iload_n 1, 1) := by decide +kernel
theorem d_M_comesAgain_26 : decode b_M_comesAgain 26 = .ok (.invokevirtual 58, 3) := by decide +kernel
theorem d_M_comesAgain_29 : decode b_M_comesAgain 29 = .ok (.if_icmp .ge 26, 3) := by decide +kernel
theorem d_M_comesAgain_32 : decode b_M_comesAgain 32 = .ok (.aload_n 0, 1) := by decide +kernel
theorem d_M_comesAgain_33 : decode b_M_comesAgain 33 = .ok (.getfield 36, 3) := by decide +kernel
theorem d_M_comesAgain_36 : decode b_M_comesAgain 36 = .ok (.aload_n 0, 1) := by decide +kernel
theorem d_M_comesAgain_37 : decode b_M_comesAgain 37 = .ok (.getfield 30, 3) := by decide +kernel
theorem d_M_comesAgain_40 : decode b_M_comesAgain 40 = .ok (.bipush 12, 2) := by decide +kernel
theorem d_M_comesAgain_42 : decode b_M_comesAgain 42 = .ok (.iload_n 1, 1) := by decide +kernel
theorem d_M_comesAgain_43 : decode b_M_comesAgain 43 = .ok (.imul, 1) := by decide +kernel
theorem d_M_comesAgain_44 : decode b_M_comesAgain 44 = .ok (.iload_n 2, 1) := by decide +kernel
theorem d_M_comesAgain_45 : decode b_M_comesAgain 45 = .ok (.iadd, 1) := by decide +kernel
theorem d_M_comesAgain_46 : decode b_M_comesAgain 46 = .ok (.iaload, 1) := by decide +kernel
theorem d_M_comesAgain_47 : decode b_M_comesAgain 47 = .ok (.iconst 1, 1) := by decide +kernel
theorem d_M_comesAgain_48 : decode b_M_comesAgain 48 = .ok (.bastore, 1) := by decide +kernel
theorem d_M_comesAgain_49 : decode b_M_comesAgain 49 = .ok (.iinc 2 1, 3) := by decide +kernel
theorem d_M_comesAgain_52 : decode b_M_comesAgain 52 = .ok (.goto (-29), 3) := by decide +kernel
theorem d_M_comesAgain_55 : decode b_M_comesAgain 55 = .ok (.aload_n 0, 1) := by decide +kernel
theorem d_M_comesAgain_56 : decode b_M_comesAgain 56 = .ok (.aload_n 0, 1) := by decide +kernel
theorem d_M_comesAgain_57 : decode b_M_comesAgain 57 = .ok (.getfield 36, 3) := by decide +kernel
theorem d_M_comesAgain_60 : decode b_M_comesAgain 60 = .ok (.invokevirtual 66, 3) := by decide +kernel
theorem d_M_comesAgain_63 : decode b_M_comesAgain 63 = .ok (.aload_n 0, 1) := by decide +kernel
theorem d_M_comesAgain_64 : decode b_M_comesAgain 64 = .ok (.getfield 36, 3) := by decide +kernel
theorem d_M_comesAgain_67 : decode b_M_comesAgain 67 = .ok (.iload_n 1, 1) := by decide +kernel
theorem d_M_comesAgain_68 : decode b_M_comesAgain 68 = .ok (.baload, 1) := by decide +kernel
theorem d_M_comesAgain_69 : decode b_M_comesAgain 69 = .ok (.ireturn, 1) := by decide +kernel
theorem d_M_value_0 : decode b_M_value 0 = .ok (.aload_n 0, 1) := by decide +kernel
theorem d_M_value_1 : decode b_M_value 1 = .ok (.iload_n 1, 1) := by decide +kernel
theorem d_M_value_2 : decode b_M_value 2 = .ok (.invokevirtual 87, 3) := by decide +kernel
theorem d_M_value_5 : decode b_M_value 5 = .ok (.ifCond .eq 12, 3) := by decide +kernel
theorem d_M_value_8 : decode b_M_value 8 = .ok (.aload_n 0, 1) := by decide +kernel
theorem d_M_value_9 : decode b_M_value 9 = .ok (.getfield 42, 3) := by decide +kernel
theorem d_M_value_12 : decode b_M_value 12 = .ok (.iload_n 1, 1) := by decide +kernel
theorem d_M_value_13 : decode b_M_value 13 = .ok (.iaload, 1) := by decide +kernel
theorem d_M_value_14 : decode b_M_value 14 = .ok (.goto 4, 3) := by decide +kernel
theorem d_M_value_17 : decode b_M_value 17 = .ok (.iconst 0, 1) := by decide +kernel
theorem d_M_value_18 : decode b_M_value 18 = .ok (.ireturn, 1) := by decide +kernel
theorem d_M_asked_0 : decode b_M_asked 0 = .ok (.aload_n 0, 1) := by decide +kernel
theorem d_M_asked_1 : decode b_M_asked 1 = .ok (.aload_n 0, 1) := by decide +kernel
theorem d_M_asked_2 : decode b_M_asked 2 = .ok (.invokevirtual 79, 3) := by decide +kernel
theorem d_M_asked_5 : decode b_M_asked 5 = .ok (.iconst (-1), 1) := by decide +kernel
theorem d_M_asked_6 : decode b_M_asked 6 = .ok (.if_icmp .eq 7, 3) := by decide +kernel
theorem d_M_asked_9 : decode b_M_asked 9 = .ok (.iconst 1, 1) := by decide +kernel
theorem d_M_asked_10 : decode b_M_asked 10 = .ok (.goto 25, 3) := by decide +kernel
theorem d_M_asked_13 : decode b_M_asked 13 = .ok (.aload_n 0, 1) := by decide +kernel
theorem d_M_asked_14 : decode b_M_asked 14 = .ok (.iload_n 1, 1) := by decide +kernel
theorem d_M_asked_15 : decode b_M_asked 15 = .ok (.invokevirtual 51, 3) := by decide +kernel
theorem d_M_asked_18 : decode b_M_asked 18 = .ok (.ifCond .eq 12, 3) := by decide +kernel
theorem d_M_asked_21 : decode b_M_asked 21 = .ok (.aload_n 0, 1) := by decide +kernel
theorem d_M_asked_22 : decode b_M_asked 22 = .ok (.getfield 33, 3) := by decide +kernel
theorem d_M_asked_25 : decode b_M_asked 25 = .ok (.iload_n 1, 1) := by decide +kernel
theorem d_M_asked_26 : decode b_M_asked 26 = .ok (.baload, 1) := by decide +kernel
theorem d_M_asked_27 : decode b_M_asked 27 = .ok (.ifCond .ne 7, 3) := by decide +kernel
theorem d_M_asked_30 : decode b_M_asked 30 = .ok (.iconst 2, 1) := by decide +kernel
theorem d_M_asked_31 : decode b_M_asked 31 = .ok (.goto 4, 3) := by decide +kernel
theorem d_M_asked_34 : decode b_M_asked 34 = .ok (.iconst 0, 1) := by decide +kernel
theorem d_M_asked_35 : decode b_M_asked 35 = .ok (.putfield 48, 3) := by decide +kernel
theorem d_M_asked_38 : decode b_M_asked 38 = .ok (.aload_n 0, 1) := by decide +kernel
theorem d_M_asked_39 : decode b_M_asked 39 = .ok (.getfield 48, 3) := by decide +kernel
theorem d_M_asked_42 : decode b_M_asked 42 = .ok (.ifCond .eq 5, 3) := by decide +kernel
theorem d_M_asked_45 : decode b_M_asked 45 = .ok (.iconst 0, 1) := by decide +kernel
theorem d_M_asked_46 : decode b_M_asked 46 = .ok (.ireturn, 1) := by decide +kernel
theorem d_M_asked_47 : decode b_M_asked 47 = .ok (.iconst 0, 1) := by decide +kernel
theorem d_M_asked_48 : decode b_M_asked 48 = .ok (.istore_n 2, 1) := by decide +kernel
theorem d_M_asked_49 : decode b_M_asked 49 = .ok (.iload_n 2, 1) := by decide +kernel
theorem d_M_asked_50 : decode b_M_asked 50 = .ok (.aload_n 0, 1) := by decide +kernel
theorem d_M_asked_51 : decode b_M_asked 51 = .ok (.getfield 7, 3) := by decide +kernel
theorem d_M_asked_54 : decode b_M_asked 54 = .ok (.if_icmp .ge 16, 3) := by decide +kernel
theorem d_M_asked_57 : decode b_M_asked 57 = .ok (.aload_n 0, 1) := by decide +kernel
theorem d_M_asked_58 : decode b_M_asked 58 = .ok (.getfield 39, 3) := by decide +kernel
theorem d_M_asked_61 : decode b_M_asked 61 = .ok (.iload_n 2, 1) := by decide +kernel
theorem d_M_asked_62 : decode b_M_asked 62 = .ok (.iconst 0, 1) := by decide +kernel
theorem d_M_asked_63 : decode b_M_asked 63 = .ok (.bastore, 1) := by decide +kernel
theorem d_M_asked_64 : decode b_M_asked 64 = .ok (.iinc 2 1, 3) := by decide +kernel
theorem d_M_asked_67 : decode b_M_asked 67 = .ok (.goto (-18), 3) := by decide +kernel
theorem d_M_asked_70 : decode b_M_asked 70 = .ok (.iconst 0, 1) := by decide +kernel
theorem d_M_asked_71 : decode b_M_asked 71 = .ok (.istore_n 2, 1) := by decide +kernel
theorem d_M_asked_72 : decode b_M_asked 72 = .ok (.iload_n 2, 1) := by decide +kernel
theorem d_M_asked_73 : decode b_M_asked 73 = .ok (.aload_n 0, 1) := by decide +kernel
theorem d_M_asked_74 : decode b_M_asked 74 = .ok (.getfield 7, 3) := by decide +kernel
theorem d_M_asked_77 : decode b_M_asked 77 = .ok (.if_icmp .ge 48, 3) := by decide +kernel
theorem d_M_asked_80 : decode b_M_asked 80 = .ok (.iconst 0, 1) := by decide +kernel
theorem d_M_asked_81 : decode b_M_asked 81 = .ok (.istore_n 3, 1) := by decide +kernel
theorem d_M_asked_82 : decode b_M_asked 82 = .ok (.iload_n 3, 1) := by decide +kernel
theorem d_M_asked_83 : decode b_M_asked 83 = .ok (.aload_n 0, 1) := by decide +kernel
theorem d_M_asked_84 : decode b_M_asked 84 = .ok (.getfield 7, 3) := by decide +kernel
theorem d_M_asked_87 : decode b_M_asked 87 = .ok (.if_icmp .ge 32, 3) := by decide +kernel
theorem d_M_asked_90 : decode b_M_asked 90 = .ok (.aload_n 0, 1) := by decide +kernel
theorem d_M_asked_91 : decode b_M_asked 91 = .ok (.getfield 33, 3) := by decide +kernel
theorem d_M_asked_94 : decode b_M_asked 94 = .ok (.iload_n 3, 1) := by decide +kernel
theorem d_M_asked_95 : decode b_M_asked 95 = .ok (.baload, 1) := by decide +kernel
theorem d_M_asked_96 : decode b_M_asked 96 = .ok (.ifCond .eq 17, 3) := by decide +kernel
theorem d_M_asked_99 : decode b_M_asked 99 = .ok (.aload_n 0, 1) := by decide +kernel
theorem d_M_asked_100 : decode b_M_asked 100 = .ok (.getfield 39, 3) := by decide +kernel
theorem d_M_asked_103 : decode b_M_asked 103 = .ok (.iload_n 3, 1) := by decide +kernel
theorem d_M_asked_104 : decode b_M_asked 104 = .ok (.baload, 1) := by decide +kernel
theorem d_M_asked_105 : decode b_M_asked 105 = .ok (.ifCond .ne 8, 3) := by decide +kernel
theorem d_M_asked_108 : decode b_M_asked 108 = .ok (.aload_n 0, 1) := by decide +kernel
theorem d_M_asked_109 : decode b_M_asked 109 = .ok (.iload_n 3, 1) := by decide +kernel
theorem d_M_asked_110 : decode b_M_asked 110 = .ok (.invokevirtual 83, 3) := by decide +kernel
theorem d_M_asked_113 : decode b_M_asked 113 = .ok (.iinc 3 1, 3) := by decide +kernel
theorem d_M_asked_116 : decode b_M_asked 116 = .ok (.goto (-34), 3) := by decide +kernel
theorem d_M_asked_119 : decode b_M_asked 119 = .ok (.iinc 2 1, 3) := by decide +kernel
theorem d_M_asked_122 : decode b_M_asked 122 = .ok (.goto (-50), 3) := by decide +kernel
theorem d_M_asked_125 : decode b_M_asked 125 = .ok (.iconst 1, 1) := by decide +kernel
theorem d_M_asked_126 : decode b_M_asked 126 = .ok (.ireturn, 1) := by decide +kernel
theorem d_M_learn_0 : decode b_M_learn 0 = .ok (.aload_n 0, 1) := by decide +kernel
theorem d_M_learn_1 : decode b_M_learn 1 = .ok (.getfield 42, 3) := by decide +kernel
theorem d_M_learn_4 : decode b_M_learn 4 = .ok (.iload_n 1, 1) := by decide +kernel
theorem d_M_learn_5 : decode b_M_learn 5 = .ok (.aload_n 0, 1) := by decide +kernel
theorem d_M_learn_6 : decode b_M_learn 6 = .ok (.getfield 17, 3) := by decide +kernel
theorem d_M_learn_9 : decode b_M_learn 9 = .ok (.iload_n 1, 1) := by decide +kernel
theorem d_M_learn_10 : decode b_M_learn 10 = .ok (.iaload, 1) := by decide +kernel
theorem d_M_learn_11 : decode b_M_learn 11 = .ok (.iastore, 1) := by decide +kernel
theorem d_M_learn_12 : decode b_M_learn 12 = .ok (.aload_n 0, 1) := by decide +kernel
theorem d_M_learn_13 : decode b_M_learn 13 = .ok (.getfield 45, 3) := by decide +kernel
theorem d_M_learn_16 : decode b_M_learn 16 = .ok (.iload_n 1, 1) := by decide +kernel
theorem d_M_learn_17 : decode b_M_learn 17 = .ok (.iconst 0, 1) := by decide +kernel
theorem d_M_learn_18 : decode b_M_learn 18 = .ok (.iastore, 1) := by decide +kernel
theorem d_M_learn_19 : decode b_M_learn 19 = .ok (.aload_n 0, 1) := by decide +kernel
theorem d_M_learn_20 : decode b_M_learn 20 = .ok (.getfield 39, 3) := by decide +kernel
theorem d_M_learn_23 : decode b_M_learn 23 = .ok (.iload_n 1, 1) := by decide +kernel
theorem d_M_learn_24 : decode b_M_learn 24 = .ok (.iconst 1, 1) := by decide +kernel
theorem d_M_learn_25 : decode b_M_learn 25 = .ok (.bastore, 1) := by decide +kernel
theorem d_M_learn_26 : decode b_M_learn 26 = .ok (.iconst 0, 1) := by decide +kernel
theorem d_M_learn_27 : decode b_M_learn 27 = .ok (.istore_n 2, 1) := by decide +kernel
theorem d_M_learn_28 : decode b_M_learn 28 = .ok (.iload_n 2, 1) := by decide +kernel
theorem d_M_learn_29 : decode b_M_learn 29 = .ok (.aload_n 0, 1) := by decide +kernel
theorem d_M_learn_30 : decode b_M_learn 30 = .ok (.iload_n 1, 1) := by decide +kernel
theorem d_M_learn_31 : decode b_M_learn 31 = .ok (.invokevirtual 58, 3) := by decide +kernel
theorem d_M_learn_34 : decode b_M_learn 34 = .ok (.if_icmp .ge 35, 3) := by decide +kernel
theorem d_M_learn_37 : decode b_M_learn 37 = .ok (.aload_n 0, 1) := by decide +kernel
theorem d_M_learn_38 : decode b_M_learn 38 = .ok (.getfield 39, 3) := by decide +kernel
theorem d_M_learn_41 : decode b_M_learn 41 = .ok (.aload_n 0, 1) := by decide +kernel
theorem d_M_learn_42 : decode b_M_learn 42 = .ok (.getfield 30, 3) := by decide +kernel
theorem d_M_learn_45 : decode b_M_learn 45 = .ok (.bipush 12, 2) := by decide +kernel
theorem d_M_learn_47 : decode b_M_learn 47 = .ok (.iload_n 1, 1) := by decide +kernel
theorem d_M_learn_48 : decode b_M_learn 48 = .ok (.imul, 1) := by decide +kernel
theorem d_M_learn_49 : decode b_M_learn 49 = .ok (.iload_n 2, 1) := by decide +kernel
theorem d_M_learn_50 : decode b_M_learn 50 = .ok (.iadd, 1) := by decide +kernel
theorem d_M_learn_51 : decode b_M_learn 51 = .ok (.iaload, 1) := by decide +kernel
theorem d_M_learn_52 : decode b_M_learn 52 = .ok (.baload, 1) := by decide +kernel
theorem d_M_learn_53 : decode b_M_learn 53 = .ok (.ifCond .ne 10, 3) := by decide +kernel
theorem d_M_learn_56 : decode b_M_learn 56 = .ok (.aload_n 0, 1) := by decide +kernel
theorem d_M_learn_57 : decode b_M_learn 57 = .ok (.getfield 39, 3) := by decide +kernel
theorem d_M_learn_60 : decode b_M_learn 60 = .ok (.iload_n 1, 1) := by decide +kernel
theorem d_M_learn_61 : decode b_M_learn 61 = .ok (.iconst 0, 1) := by decide +kernel
theorem d_M_learn_62 : decode b_M_learn 62 = .ok (.bastore, 1) := by decide +kernel
theorem d_M_learn_63 : decode b_M_learn 63 = .ok (.iinc 2 1, 3) := by decide +kernel
theorem d_M_learn_66 : decode b_M_learn 66 = .ok (.goto (-38), 3) := by decide +kernel
theorem d_M_learn_69 : decode b_M_learn 69 = .ok (.iconst 0, 1) := by decide +kernel
theorem d_M_learn_70 : decode b_M_learn 70 = .ok (.istore_n 2, 1) := by decide +kernel
theorem d_M_learn_71 : decode b_M_learn 71 = .ok (.iload_n 2, 1) := by decide +kernel
theorem d_M_learn_72 : decode b_M_learn 72 = .ok (.aload_n 0, 1) := by decide +kernel
theorem d_M_learn_73 : decode b_M_learn 73 = .ok (.iload_n 1, 1) := by decide +kernel
theorem d_M_learn_74 : decode b_M_learn 74 = .ok (.invokevirtual 58, 3) := by decide +kernel
theorem d_M_learn_77 : decode b_M_learn 77 = .ok (.if_icmp .ge 137, 3) := by decide +kernel
theorem d_M_learn_80 : decode b_M_learn 80 = .ok (.aload_n 0, 1) := by decide +kernel
theorem d_M_learn_81 : decode b_M_learn 81 = .ok (.getfield 39, 3) := by decide +kernel
theorem d_M_learn_84 : decode b_M_learn 84 = .ok (.iload_n 1, 1) := by decide +kernel
theorem d_M_learn_85 : decode b_M_learn 85 = .ok (.baload, 1) := by decide +kernel
theorem d_M_learn_86 : decode b_M_learn 86 = .ok (.ifCond .eq 128, 3) := by decide +kernel
theorem d_M_learn_89 : decode b_M_learn 89 = .ok (.aload_n 0, 1) := by decide +kernel
theorem d_M_learn_90 : decode b_M_learn 90 = .ok (.getfield 30, 3) := by decide +kernel
theorem d_M_learn_93 : decode b_M_learn 93 = .ok (.bipush 12, 2) := by decide +kernel
theorem d_M_learn_95 : decode b_M_learn 95 = .ok (.iload_n 1, 1) := by decide +kernel
theorem d_M_learn_96 : decode b_M_learn 96 = .ok (.imul, 1) := by decide +kernel
theorem d_M_learn_97 : decode b_M_learn 97 = .ok (.iload_n 2, 1) := by decide +kernel
theorem d_M_learn_98 : decode b_M_learn 98 = .ok (.iadd, 1) := by decide +kernel
theorem d_M_learn_99 : decode b_M_learn 99 = .ok (.iaload, 1) := by decide +kernel
theorem d_M_learn_100 : decode b_M_learn 100 = .ok (.istore_n 3, 1) := by decide +kernel
theorem d_M_learn_101 : decode b_M_learn 101 = .ok (.aload_n 0, 1) := by decide +kernel
theorem d_M_learn_102 : decode b_M_learn 102 = .ok (.getfield 24, 3) := by decide +kernel
theorem d_M_learn_105 : decode b_M_learn 105 = .ok (.iload_n 1, 1) := by decide +kernel
theorem d_M_learn_106 : decode b_M_learn 106 = .ok (.iaload, 1) := by decide +kernel
theorem d_M_learn_107 : decode b_M_learn 107 = .ok (.iconst 1, 1) := by decide +kernel
theorem d_M_learn_108 : decode b_M_learn 108 = .ok (.if_icmp .le 26, 3) := by decide +kernel
theorem d_M_learn_111 : decode b_M_learn 111 = .ok (.aload_n 0, 1) := by decide +kernel
theorem d_M_learn_112 : decode b_M_learn 112 = .ok (.getfield 42, 3) := by decide +kernel
theorem d_M_learn_115 : decode b_M_learn 115 = .ok (.iload_n 3, 1) := by decide +kernel
theorem d_M_learn_116 : decode b_M_learn 116 = .ok (.iaload, 1) := by decide +kernel
theorem d_M_learn_117 : decode b_M_learn 117 = .ok (.aload_n 0, 1) := by decide +kernel
theorem d_M_learn_118 : decode b_M_learn 118 = .ok (.getfield 42, 3) := by decide +kernel
theorem d_M_learn_121 : decode b_M_learn 121 = .ok (.iload_n 1, 1) := by decide +kernel
theorem d_M_learn_122 : decode b_M_learn 122 = .ok (.iaload, 1) := by decide +kernel
theorem d_M_learn_123 : decode b_M_learn 123 = .ok (.if_icmp .le 7, 3) := by decide +kernel
theorem d_M_learn_126 : decode b_M_learn 126 = .ok (.iconst 1, 1) := by decide +kernel
theorem d_M_learn_127 : decode b_M_learn 127 = .ok (.goto 27, 3) := by decide +kernel
theorem d_M_learn_130 : decode b_M_learn 130 = .ok (.iconst 0, 1) := by decide +kernel
theorem d_M_learn_131 : decode b_M_learn 131 = .ok (.goto 23, 3) := by decide +kernel
theorem d_M_learn_134 : decode b_M_learn 134 = .ok (.aload_n 0, 1) := by decide +kernel
theorem d_M_learn_135 : decode b_M_learn 135 = .ok (.getfield 42, 3) := by decide +kernel
theorem d_M_learn_138 : decode b_M_learn 138 = .ok (.iload_n 3, 1) := by decide +kernel
theorem d_M_learn_139 : decode b_M_learn 139 = .ok (.iaload, 1) := by decide +kernel
theorem d_M_learn_140 : decode b_M_learn 140 = .ok (.aload_n 0, 1) := by decide +kernel
theorem d_M_learn_141 : decode b_M_learn 141 = .ok (.getfield 42, 3) := by decide +kernel
theorem d_M_learn_144 : decode b_M_learn 144 = .ok (.iload_n 1, 1) := by decide +kernel
theorem d_M_learn_145 : decode b_M_learn 145 = .ok (.iaload, 1) := by decide +kernel
theorem d_M_learn_146 : decode b_M_learn 146 = .ok (.if_icmp .ge 7, 3) := by decide +kernel
theorem d_M_learn_149 : decode b_M_learn 149 = .ok (.iconst 1, 1) := by decide +kernel
theorem d_M_learn_150 : decode b_M_learn 150 = .ok (.goto 4, 3) := by decide +kernel
theorem d_M_learn_153 : decode b_M_learn 153 = .ok (.iconst 0, 1) := by decide +kernel
theorem d_M_learn_154 : decode b_M_learn 154 = .ok (.istore 4, 2) := by decide +kernel
theorem d_M_learn_156 : decode b_M_learn 156 = .ok (.iload_n 2, 1) := by decide +kernel
theorem d_M_learn_157 : decode b_M_learn 157 = .ok (.ifCond .eq 8, 3) := by decide +kernel
theorem d_M_learn_160 : decode b_M_learn 160 = .ok (.iload 4, 2) := by decide +kernel
theorem d_M_learn_162 : decode b_M_learn 162 = .ok (.ifCond .eq 15, 3) := by decide +kernel
theorem d_M_learn_165 : decode b_M_learn 165 = .ok (.aload_n 0, 1) := by decide +kernel
theorem d_M_learn_166 : decode b_M_learn 166 = .ok (.getfield 42, 3) := by decide +kernel
theorem d_M_learn_169 : decode b_M_learn 169 = .ok (.iload_n 1, 1) := by decide +kernel
theorem d_M_learn_170 : decode b_M_learn 170 = .ok (.aload_n 0, 1) := by decide +kernel
theorem d_M_learn_171 : decode b_M_learn 171 = .ok (.getfield 42, 3) := by decide +kernel
theorem d_M_learn_174 : decode b_M_learn 174 = .ok (.iload_n 3, 1) := by decide +kernel
theorem d_M_learn_175 : decode b_M_learn 175 = .ok (.iaload, 1) := by decide +kernel
theorem d_M_learn_176 : decode b_M_learn 176 = .ok (.iastore, 1) := by decide +kernel
theorem d_M_learn_177 : decode b_M_learn 177 = .ok (.aload_n 0, 1) := by decide +kernel
theorem d_M_learn_178 : decode b_M_learn 178 = .ok (.getfield 45, 3) := by decide +kernel
theorem d_M_learn_181 : decode b_M_learn 181 = .ok (.iload_n 3, 1) := by decide +kernel
theorem d_M_learn_182 : decode b_M_learn 182 = .ok (.iaload, 1) := by decide +kernel
theorem d_M_learn_183 : decode b_M_learn 183 = .ok (.iconst 1, 1) := by decide +kernel
theorem d_M_learn_184 : decode b_M_learn 184 = .ok (.iadd, 1) := by decide +kernel
theorem d_M_learn_185 : decode b_M_learn 185 = .ok (.aload_n 0, 1) := by decide +kernel
theorem d_M_learn_186 : decode b_M_learn 186 = .ok (.getfield 45, 3) := by decide +kernel
theorem d_M_learn_189 : decode b_M_learn 189 = .ok (.iload_n 1, 1) := by decide +kernel
theorem d_M_learn_190 : decode b_M_learn 190 = .ok (.iaload, 1) := by decide +kernel
theorem d_M_learn_191 : decode b_M_learn 191 = .ok (.if_icmp .le 17, 3) := by decide +kernel
theorem d_M_learn_194 : decode b_M_learn 194 = .ok (.aload_n 0, 1) := by decide +kernel
theorem d_M_learn_195 : decode b_M_learn 195 = .ok (.getfield 45, 3) := by decide +kernel
theorem d_M_learn_198 : decode b_M_learn 198 = .ok (.iload_n 1, 1) := by decide +kernel
theorem d_M_learn_199 : decode b_M_learn 199 = .ok (.aload_n 0, 1) := by decide +kernel
theorem d_M_learn_200 : decode b_M_learn 200 = .ok (.getfield 45, 3) := by decide +kernel
theorem d_M_learn_203 : decode b_M_learn 203 = .ok (.iload_n 3, 1) := by decide +kernel
theorem d_M_learn_204 : decode b_M_learn 204 = .ok (.iaload, 1) := by decide +kernel
theorem d_M_learn_205 : decode b_M_learn 205 = .ok (.iconst 1, 1) := by decide +kernel
theorem d_M_learn_206 : decode b_M_learn 206 = .ok (.iadd, 1) := by decide +kernel
theorem d_M_learn_207 : decode b_M_learn 207 = .ok (.iastore, 1) := by decide +kernel
theorem d_M_learn_208 : decode b_M_learn 208 = .ok (.iinc 2 1, 3) := by decide +kernel
theorem d_M_learn_211 : decode b_M_learn 211 = .ok (.goto (-140), 3) := by decide +kernel
theorem d_M_learn_214 : decode b_M_learn 214 = .ok (.return_, 1) := by decide +kernel
theorem d_M_best_0 : decode b_M_best 0 = .ok (.aload_n 0, 1) := by decide +kernel
theorem d_M_best_1 : decode b_M_best 1 = .ok (.iload_n 1, 1) := by decide +kernel
theorem d_M_best_2 : decode b_M_best 2 = .ok (.invokevirtual 87, 3) := by decide +kernel
theorem d_M_best_5 : decode b_M_best 5 = .ok (.ifCond .ne 5, 3) := by decide +kernel
theorem d_M_best_8 : decode b_M_best 8 = .ok (.iconst 0, 1) := by decide +kernel
theorem d_M_best_9 : decode b_M_best 9 = .ok (.ireturn, 1) := by decide +kernel
theorem d_M_best_10 : decode b_M_best 10 = .ok (.iconst 0, 1) := by decide +kernel
theorem d_M_best_11 : decode b_M_best 11 = .ok (.istore_n 2, 1) := by decide +kernel
theorem d_M_best_12 : decode b_M_best 12 = .ok (.iload_n 2, 1) := by decide +kernel
theorem d_M_best_13 : decode b_M_best 13 = .ok (.aload_n 0, 1) := by decide +kernel
theorem d_M_best_14 : decode b_M_best 14 = .ok (.iload_n 1, 1) := by decide +kernel
theorem d_M_best_15 : decode b_M_best 15 = .ok (.invokevirtual 58, 3) := by decide +kernel
theorem d_M_best_18 : decode b_M_best 18 = .ok (.if_icmp .ge 36, 3) := by decide +kernel
theorem d_M_best_21 : decode b_M_best 21 = .ok (.aload_n 0, 1) := by decide +kernel
theorem d_M_best_22 : decode b_M_best 22 = .ok (.getfield 42, 3) := by decide +kernel
theorem d_M_best_25 : decode b_M_best 25 = .ok (.aload_n 0, 1) := by decide +kernel
theorem d_M_best_26 : decode b_M_best 26 = .ok (.getfield 30, 3) := by decide +kernel
theorem d_M_best_29 : decode b_M_best 29 = .ok (.bipush 12, 2) := by decide +kernel
theorem d_M_best_31 : decode b_M_best 31 = .ok (.iload_n 1, 1) := by decide +kernel
theorem d_M_best_32 : decode b_M_best 32 = .ok (.imul, 1) := by decide +kernel
theorem d_M_best_33 : decode b_M_best 33 = .ok (.iload_n 2, 1) := by decide +kernel
theorem d_M_best_34 : decode b_M_best 34 = .ok (.iadd, 1) := by decide +kernel
theorem d_M_best_35 : decode b_M_best 35 = .ok (.iaload, 1) := by decide +kernel
theorem d_M_best_36 : decode b_M_best 36 = .ok (.iaload, 1) := by decide +kernel
theorem d_M_best_37 : decode b_M_best 37 = .ok (.aload_n 0, 1) := by decide +kernel
theorem d_M_best_38 : decode b_M_best 38 = .ok (.getfield 42, 3) := by decide +kernel
theorem d_M_best_41 : decode b_M_best 41 = .ok (.iload_n 1, 1) := by decide +kernel
theorem d_M_best_42 : decode b_M_best 42 = .ok (.iaload, 1) := by decide +kernel
theorem d_M_best_43 : decode b_M_best 43 = .ok (.if_icmp .ne 5, 3) := by decide +kernel
theorem d_M_best_46 : decode b_M_best 46 = .ok (.iload_n 2, 1) := by decide +kernel
theorem d_M_best_47 : decode b_M_best 47 = .ok (.ireturn, 1) := by decide +kernel
theorem d_M_best_48 : decode b_M_best 48 = .ok (.iinc 2 1, 3) := by decide +kernel
theorem d_M_best_51 : decode b_M_best 51 = .ok (.goto (-39), 3) := by decide +kernel
theorem d_M_best_54 : decode b_M_best 54 = .ok (.iconst (-1), 1) := by decide +kernel
theorem d_M_best_55 : decode b_M_best 55 = .ok (.ireturn, 1) := by decide +kernel
theorem d_M_length_0 : decode b_M_length 0 = .ok (.aload_n 0, 1) := by decide +kernel
theorem d_M_length_1 : decode b_M_length 1 = .ok (.iload_n 1, 1) := by decide +kernel
theorem d_M_length_2 : decode b_M_length 2 = .ok (.invokevirtual 87, 3) := by decide +kernel
theorem d_M_length_5 : decode b_M_length 5 = .ok (.ifCond .eq 12, 3) := by decide +kernel
theorem d_M_length_8 : decode b_M_length 8 = .ok (.aload_n 0, 1) := by decide +kernel
theorem d_M_length_9 : decode b_M_length 9 = .ok (.getfield 45, 3) := by decide +kernel
theorem d_M_length_12 : decode b_M_length 12 = .ok (.iload_n 1, 1) := by decide +kernel
theorem d_M_length_13 : decode b_M_length 13 = .ok (.iaload, 1) := by decide +kernel
theorem d_M_length_14 : decode b_M_length 14 = .ok (.goto 4, 3) := by decide +kernel
theorem d_M_length_17 : decode b_M_length 17 = .ok (.iconst 0, 1) := by decide +kernel
theorem d_M_length_18 : decode b_M_length 18 = .ok (.ireturn, 1) := by decide +kernel
theorem d_L_law_0 : decode b_L_law 0 = .ok (.new 8, 3) := by decide +kernel
theorem d_L_law_3 : decode b_L_law 3 = .ok (.dup, 1) := by decide +kernel
theorem d_L_law_4 : decode b_L_law 4 = .ok (.invokespecial 46, 3) := by decide +kernel
theorem d_L_law_7 : decode b_L_law 7 = .ok (.astore_n 1, 1) := by decide +kernel
theorem d_L_law_8 : decode b_L_law 8 = .ok (.new 47, 3) := by decide +kernel
theorem d_L_law_11 : decode b_L_law 11 = .ok (.dup, 1) := by decide +kernel
theorem d_L_law_12 : decode b_L_law 12 = .ok (.invokespecial 49, 3) := by decide +kernel
theorem d_L_law_15 : decode b_L_law 15 = .ok (.astore_n 2, 1) := by decide +kernel
theorem d_L_law_16 : decode b_L_law 16 = .ok (.iconst 1, 1) := by decide +kernel
theorem d_L_law_17 : decode b_L_law 17 = .ok (.newarray .long, 2) := by decide +kernel
theorem d_L_law_19 : decode b_L_law 19 = .ok (.astore_n 3, 1) := by decide +kernel
theorem d_L_law_20 : decode b_L_law 20 = .ok (.iconst 0, 1) := by decide +kernel
theorem d_L_law_21 : decode b_L_law 21 = .ok (.istore 4, 2) := by decide +kernel
theorem d_L_law_23 : decode b_L_law 23 = .ok (.iload 4, 2) := by decide +kernel
theorem d_L_law_25 : decode b_L_law 25 = .ok (.aload_n 0, 1) := by decide +kernel
theorem d_L_law_26 : decode b_L_law 26 = .ok (.arraylength, 1) := by decide +kernel
theorem d_L_law_27 : decode b_L_law 27 = .ok (.iconst 4, 1) := by decide +kernel
theorem d_L_law_28 : decode b_L_law 28 = .ok (.isub, 1) := by decide +kernel
theorem d_L_law_29 : decode b_L_law 29 = .ok (.if_icmp .gt 590, 3) := by decide +kernel
theorem d_L_law_32 : decode b_L_law 32 = .ok (.aload_n 0, 1) := by decide +kernel
theorem d_L_law_33 : decode b_L_law 33 = .ok (.iload 4, 2) := by decide +kernel
theorem d_L_law_35 : decode b_L_law 35 = .ok (.iaload, 1) := by decide +kernel
theorem d_L_law_36 : decode b_L_law 36 = .ok (.bipush 15, 2) := by decide +kernel
theorem d_L_law_38 : decode b_L_law 38 = .ok (.iand, 1) := by decide +kernel
theorem d_L_law_39 : decode b_L_law 39 = .ok (.tableswitch 574 0 9 #[53, 89, 149, 209, 269, 337, 350, 406, 462, 518], 53) := by decide +kernel
theorem d_L_law_92 : decode b_L_law 92 = .ok (.aload_n 1, 1) := by decide +kernel
theorem d_L_law_93 : decode b_L_law 93 = .ok (.aload_n 0, 1) := by decide +kernel
theorem d_L_law_94 : decode b_L_law 94 = .ok (.iload 4, 2) := by decide +kernel
theorem d_L_law_96 : decode b_L_law 96 = .ok (.iconst 1, 1) := by decide +kernel
theorem d_L_law_97 : decode b_L_law 97 = .ok (.iadd, 1) := by decide +kernel
theorem d_L_law_98 : decode b_L_law 98 = .ok (.iaload, 1) := by decide +kernel
theorem d_L_law_99 : decode b_L_law 99 = .ok (.invokestatic 50, 3) := by decide +kernel
theorem d_L_law_102 : decode b_L_law 102 = .ok (.istore 5, 2) := by decide +kernel
theorem d_L_law_104 : decode b_L_law 104 = .ok (.aload_n 2, 1) := by decide +kernel
theorem d_L_law_105 : decode b_L_law 105 = .ok (.aload_n 0, 1) := by decide +kernel
theorem d_L_law_106 : decode b_L_law 106 = .ok (.iload 4, 2) := by decide +kernel
theorem d_L_law_108 : decode b_L_law 108 = .ok (.iconst 1, 1) := by decide +kernel
theorem d_L_law_109 : decode b_L_law 109 = .ok (.iadd, 1) := by decide +kernel
theorem d_L_law_110 : decode b_L_law 110 = .ok (.iaload, 1) := by decide +kernel
theorem d_L_law_111 : decode b_L_law 111 = .ok (.invokevirtual 55, 3) := by decide +kernel
theorem d_L_law_114 : decode b_L_law 114 = .ok (.aload_n 2, 1) := by decide +kernel
theorem d_L_law_115 : decode b_L_law 115 = .ok (.invokevirtual 56, 3) := by decide +kernel
theorem d_L_law_118 : decode b_L_law 118 = .ok (.iload 5, 2) := by decide +kernel
theorem d_L_law_120 : decode b_L_law 120 = .ok (.if_icmp .eq 5, 3) := by decide +kernel
theorem d_L_law_123 : decode b_L_law 123 = .ok (.iconst 0, 1) := by decide +kernel
theorem d_L_law_124 : decode b_L_law 124 = .ok (.ireturn, 1) := by decide +kernel
theorem d_L_law_125 : decode b_L_law 125 = .ok (.goto 488, 3) := by decide +kernel
theorem d_L_law_128 : decode b_L_law 128 = .ok (.aload_n 1, 1) := by decide +kernel
theorem d_L_law_129 : decode b_L_law 129 = .ok (.aload_n 0, 1) := by decide +kernel
theorem d_L_law_130 : decode b_L_law 130 = .ok (.iload 4, 2) := by decide +kernel
theorem d_L_law_132 : decode b_L_law 132 = .ok (.iconst 1, 1) := by decide +kernel
theorem d_L_law_133 : decode b_L_law 133 = .ok (.iadd, 1) := by decide +kernel
theorem d_L_law_134 : decode b_L_law 134 = .ok (.iaload, 1) := by decide +kernel
theorem d_L_law_135 : decode b_L_law 135 = .ok (.aload_n 0, 1) := by decide +kernel
theorem d_L_law_136 : decode b_L_law 136 = .ok (.iload 4, 2) := by decide +kernel
theorem d_L_law_138 : decode b_L_law 138 = .ok (.iconst 2, 1) := by decide +kernel
theorem d_L_law_139 : decode b_L_law 139 = .ok (.iadd, 1) := by decide +kernel
theorem d_L_law_140 : decode b_L_law 140 = .ok (.iaload, 1) := by decide +kernel
theorem d_L_law_141 : decode b_L_law 141 = .ok (.aload_n 0, 1) := by decide +kernel
theorem d_L_law_142 : decode b_L_law 142 = .ok (.iload 4, 2) := by decide +kernel
theorem d_L_law_144 : decode b_L_law 144 = .ok (.iconst 3, 1) := by decide +kernel
theorem d_L_law_145 : decode b_L_law 145 = .ok (.iadd, 1) := by decide +kernel
theorem d_L_law_146 : decode b_L_law 146 = .ok (.iaload, 1) := by decide +kernel
theorem d_L_law_147 : decode b_L_law 147 = .ok (.invokestatic 60, 3) := by decide +kernel
theorem d_L_law_150 : decode b_L_law 150 = .ok (.istore 5, 2) := by decide +kernel
theorem d_L_law_152 : decode b_L_law 152 = .ok (.aload_n 2, 1) := by decide +kernel
theorem d_L_law_153 : decode b_L_law 153 = .ok (.aload_n 0, 1) := by decide +kernel
theorem d_L_law_154 : decode b_L_law 154 = .ok (.iload 4, 2) := by decide +kernel
theorem d_L_law_156 : decode b_L_law 156 = .ok (.iconst 1, 1) := by decide +kernel
theorem d_L_law_157 : decode b_L_law 157 = .ok (.iadd, 1) := by decide +kernel
theorem d_L_law_158 : decode b_L_law 158 = .ok (.iaload, 1) := by decide +kernel
theorem d_L_law_159 : decode b_L_law 159 = .ok (.aload_n 0, 1) := by decide +kernel
theorem d_L_law_160 : decode b_L_law 160 = .ok (.iload 4, 2) := by decide +kernel
theorem d_L_law_162 : decode b_L_law 162 = .ok (.iconst 2, 1) := by decide +kernel
theorem d_L_law_163 : decode b_L_law 163 = .ok (.iadd, 1) := by decide +kernel
theorem d_L_law_164 : decode b_L_law 164 = .ok (.iaload, 1) := by decide +kernel
theorem d_L_law_165 : decode b_L_law 165 = .ok (.aload_n 0, 1) := by decide +kernel
theorem d_L_law_166 : decode b_L_law 166 = .ok (.iload 4, 2) := by decide +kernel
theorem d_L_law_168 : decode b_L_law 168 = .ok (.iconst 3, 1) := by decide +kernel
theorem d_L_law_169 : decode b_L_law 169 = .ok (.iadd, 1) := by decide +kernel
theorem d_L_law_170 : decode b_L_law 170 = .ok (.iaload, 1) := by decide +kernel
theorem d_L_law_171 : decode b_L_law 171 = .ok (.invokevirtual 63, 3) := by decide +kernel
theorem d_L_law_174 : decode b_L_law 174 = .ok (.aload_n 2, 1) := by decide +kernel
theorem d_L_law_175 : decode b_L_law 175 = .ok (.invokevirtual 56, 3) := by decide +kernel
theorem d_L_law_178 : decode b_L_law 178 = .ok (.iload 5, 2) := by decide +kernel
theorem d_L_law_180 : decode b_L_law 180 = .ok (.if_icmp .eq 5, 3) := by decide +kernel
theorem d_L_law_183 : decode b_L_law 183 = .ok (.iconst 0, 1) := by decide +kernel
theorem d_L_law_184 : decode b_L_law 184 = .ok (.ireturn, 1) := by decide +kernel
theorem d_L_law_185 : decode b_L_law 185 = .ok (.goto 428, 3) := by decide +kernel
theorem d_L_law_188 : decode b_L_law 188 = .ok (.aload_n 1, 1) := by decide +kernel
theorem d_L_law_189 : decode b_L_law 189 = .ok (.aload_n 0, 1) := by decide +kernel
theorem d_L_law_190 : decode b_L_law 190 = .ok (.iload 4, 2) := by decide +kernel
theorem d_L_law_192 : decode b_L_law 192 = .ok (.iconst 1, 1) := by decide +kernel
theorem d_L_law_193 : decode b_L_law 193 = .ok (.iadd, 1) := by decide +kernel
theorem d_L_law_194 : decode b_L_law 194 = .ok (.iaload, 1) := by decide +kernel
theorem d_L_law_195 : decode b_L_law 195 = .ok (.aload_n 0, 1) := by decide +kernel
theorem d_L_law_196 : decode b_L_law 196 = .ok (.iload 4, 2) := by decide +kernel
theorem d_L_law_198 : decode b_L_law 198 = .ok (.iconst 2, 1) := by decide +kernel
theorem d_L_law_199 : decode b_L_law 199 = .ok (.iadd, 1) := by decide +kernel
theorem d_L_law_200 : decode b_L_law 200 = .ok (.iaload, 1) := by decide +kernel
theorem d_L_law_201 : decode b_L_law 201 = .ok (.aload_n 0, 1) := by decide +kernel
theorem d_L_law_202 : decode b_L_law 202 = .ok (.iload 4, 2) := by decide +kernel
theorem d_L_law_204 : decode b_L_law 204 = .ok (.iconst 3, 1) := by decide +kernel
theorem d_L_law_205 : decode b_L_law 205 = .ok (.iadd, 1) := by decide +kernel
theorem d_L_law_206 : decode b_L_law 206 = .ok (.iaload, 1) := by decide +kernel
theorem d_L_law_207 : decode b_L_law 207 = .ok (.invokestatic 64, 3) := by decide +kernel
theorem d_L_law_210 : decode b_L_law 210 = .ok (.istore 5, 2) := by decide +kernel
theorem d_L_law_212 : decode b_L_law 212 = .ok (.aload_n 2, 1) := by decide +kernel
theorem d_L_law_213 : decode b_L_law 213 = .ok (.aload_n 0, 1) := by decide +kernel
theorem d_L_law_214 : decode b_L_law 214 = .ok (.iload 4, 2) := by decide +kernel
theorem d_L_law_216 : decode b_L_law 216 = .ok (.iconst 1, 1) := by decide +kernel
theorem d_L_law_217 : decode b_L_law 217 = .ok (.iadd, 1) := by decide +kernel
theorem d_L_law_218 : decode b_L_law 218 = .ok (.iaload, 1) := by decide +kernel
theorem d_L_law_219 : decode b_L_law 219 = .ok (.aload_n 0, 1) := by decide +kernel
theorem d_L_law_220 : decode b_L_law 220 = .ok (.iload 4, 2) := by decide +kernel
theorem d_L_law_222 : decode b_L_law 222 = .ok (.iconst 2, 1) := by decide +kernel
theorem d_L_law_223 : decode b_L_law 223 = .ok (.iadd, 1) := by decide +kernel
theorem d_L_law_224 : decode b_L_law 224 = .ok (.iaload, 1) := by decide +kernel
theorem d_L_law_225 : decode b_L_law 225 = .ok (.aload_n 0, 1) := by decide +kernel
theorem d_L_law_226 : decode b_L_law 226 = .ok (.iload 4, 2) := by decide +kernel
theorem d_L_law_228 : decode b_L_law 228 = .ok (.iconst 3, 1) := by decide +kernel
theorem d_L_law_229 : decode b_L_law 229 = .ok (.iadd, 1) := by decide +kernel
theorem d_L_law_230 : decode b_L_law 230 = .ok (.iaload, 1) := by decide +kernel
theorem d_L_law_231 : decode b_L_law 231 = .ok (.invokevirtual 66, 3) := by decide +kernel
theorem d_L_law_234 : decode b_L_law 234 = .ok (.aload_n 2, 1) := by decide +kernel
theorem d_L_law_235 : decode b_L_law 235 = .ok (.invokevirtual 56, 3) := by decide +kernel
theorem d_L_law_238 : decode b_L_law 238 = .ok (.iload 5, 2) := by decide +kernel
theorem d_L_law_240 : decode b_L_law 240 = .ok (.if_icmp .eq 5, 3) := by decide +kernel
theorem d_L_law_243 : decode b_L_law 243 = .ok (.iconst 0, 1) := by decide +kernel
theorem d_L_law_244 : decode b_L_law 244 = .ok (.ireturn, 1) := by decide +kernel
theorem d_L_law_245 : decode b_L_law 245 = .ok (.goto 368, 3) := by decide +kernel
theorem d_L_law_248 : decode b_L_law 248 = .ok (.aload_n 1, 1) := by decide +kernel
theorem d_L_law_249 : decode b_L_law 249 = .ok (.aload_n 0, 1) := by decide +kernel
theorem d_L_law_250 : decode b_L_law 250 = .ok (.iload 4, 2) := by decide +kernel
theorem d_L_law_252 : decode b_L_law 252 = .ok (.iconst 1, 1) := by decide +kernel
theorem d_L_law_253 : decode b_L_law 253 = .ok (.iadd, 1) := by decide +kernel
theorem d_L_law_254 : decode b_L_law 254 = .ok (.iaload, 1) := by decide +kernel
theorem d_L_law_255 : decode b_L_law 255 = .ok (.aload_n 0, 1) := by decide +kernel
theorem d_L_law_256 : decode b_L_law 256 = .ok (.iload 4, 2) := by decide +kernel
theorem d_L_law_258 : decode b_L_law 258 = .ok (.iconst 2, 1) := by decide +kernel
theorem d_L_law_259 : decode b_L_law 259 = .ok (.iadd, 1) := by decide +kernel
theorem d_L_law_260 : decode b_L_law 260 = .ok (.iaload, 1) := by decide +kernel
theorem d_L_law_261 : decode b_L_law 261 = .ok (.aload_n 0, 1) := by decide +kernel
theorem d_L_law_262 : decode b_L_law 262 = .ok (.iload 4, 2) := by decide +kernel
theorem d_L_law_264 : decode b_L_law 264 = .ok (.iconst 3, 1) := by decide +kernel
theorem d_L_law_265 : decode b_L_law 265 = .ok (.iadd, 1) := by decide +kernel
theorem d_L_law_266 : decode b_L_law 266 = .ok (.iaload, 1) := by decide +kernel
theorem d_L_law_267 : decode b_L_law 267 = .ok (.invokestatic 67, 3) := by decide +kernel
theorem d_L_law_270 : decode b_L_law 270 = .ok (.istore 5, 2) := by decide +kernel
theorem d_L_law_272 : decode b_L_law 272 = .ok (.aload_n 2, 1) := by decide +kernel
theorem d_L_law_273 : decode b_L_law 273 = .ok (.aload_n 0, 1) := by decide +kernel
theorem d_L_law_274 : decode b_L_law 274 = .ok (.iload 4, 2) := by decide +kernel
theorem d_L_law_276 : decode b_L_law 276 = .ok (.iconst 1, 1) := by decide +kernel
theorem d_L_law_277 : decode b_L_law 277 = .ok (.iadd, 1) := by decide +kernel
theorem d_L_law_278 : decode b_L_law 278 = .ok (.iaload, 1) := by decide +kernel
theorem d_L_law_279 : decode b_L_law 279 = .ok (.aload_n 0, 1) := by decide +kernel
theorem d_L_law_280 : decode b_L_law 280 = .ok (.iload 4, 2) := by decide +kernel
theorem d_L_law_282 : decode b_L_law 282 = .ok (.iconst 2, 1) := by decide +kernel
theorem d_L_law_283 : decode b_L_law 283 = .ok (.iadd, 1) := by decide +kernel
theorem d_L_law_284 : decode b_L_law 284 = .ok (.iaload, 1) := by decide +kernel
theorem d_L_law_285 : decode b_L_law 285 = .ok (.aload_n 0, 1) := by decide +kernel
theorem d_L_law_286 : decode b_L_law 286 = .ok (.iload 4, 2) := by decide +kernel
theorem d_L_law_288 : decode b_L_law 288 = .ok (.iconst 3, 1) := by decide +kernel
theorem d_L_law_289 : decode b_L_law 289 = .ok (.iadd, 1) := by decide +kernel
theorem d_L_law_290 : decode b_L_law 290 = .ok (.iaload, 1) := by decide +kernel
theorem d_L_law_291 : decode b_L_law 291 = .ok (.invokevirtual 69, 3) := by decide +kernel
theorem d_L_law_294 : decode b_L_law 294 = .ok (.aload_n 2, 1) := by decide +kernel
theorem d_L_law_295 : decode b_L_law 295 = .ok (.invokevirtual 56, 3) := by decide +kernel
theorem d_L_law_298 : decode b_L_law 298 = .ok (.iload 5, 2) := by decide +kernel
theorem d_L_law_300 : decode b_L_law 300 = .ok (.if_icmp .eq 5, 3) := by decide +kernel
theorem d_L_law_303 : decode b_L_law 303 = .ok (.iconst 0, 1) := by decide +kernel
theorem d_L_law_304 : decode b_L_law 304 = .ok (.ireturn, 1) := by decide +kernel
theorem d_L_law_305 : decode b_L_law 305 = .ok (.goto 308, 3) := by decide +kernel
theorem d_L_law_308 : decode b_L_law 308 = .ok (.aload_n 1, 1) := by decide +kernel
theorem d_L_law_309 : decode b_L_law 309 = .ok (.aload_n 0, 1) := by decide +kernel
theorem d_L_law_310 : decode b_L_law 310 = .ok (.iload 4, 2) := by decide +kernel
theorem d_L_law_312 : decode b_L_law 312 = .ok (.iconst 1, 1) := by decide +kernel
theorem d_L_law_313 : decode b_L_law 313 = .ok (.iadd, 1) := by decide +kernel
theorem d_L_law_314 : decode b_L_law 314 = .ok (.iaload, 1) := by decide +kernel
theorem d_L_law_315 : decode b_L_law 315 = .ok (.aload_n 0, 1) := by decide +kernel
theorem d_L_law_316 : decode b_L_law 316 = .ok (.iload 4, 2) := by decide +kernel
theorem d_L_law_318 : decode b_L_law 318 = .ok (.iconst 2, 1) := by decide +kernel
theorem d_L_law_319 : decode b_L_law 319 = .ok (.iadd, 1) := by decide +kernel
theorem d_L_law_320 : decode b_L_law 320 = .ok (.iaload, 1) := by decide +kernel
theorem d_L_law_321 : decode b_L_law 321 = .ok (.aload_n 3, 1) := by decide +kernel
theorem d_L_law_322 : decode b_L_law 322 = .ok (.invokestatic 70, 3) := by decide +kernel
theorem d_L_law_325 : decode b_L_law 325 = .ok (.istore 5, 2) := by decide +kernel
theorem d_L_law_327 : decode b_L_law 327 = .ok (.aload_n 2, 1) := by decide +kernel
theorem d_L_law_328 : decode b_L_law 328 = .ok (.aload_n 0, 1) := by decide +kernel
theorem d_L_law_329 : decode b_L_law 329 = .ok (.iload 4, 2) := by decide +kernel
theorem d_L_law_331 : decode b_L_law 331 = .ok (.iconst 1, 1) := by decide +kernel
theorem d_L_law_332 : decode b_L_law 332 = .ok (.iadd, 1) := by decide +kernel
theorem d_L_law_333 : decode b_L_law 333 = .ok (.iaload, 1) := by decide +kernel
theorem d_L_law_334 : decode b_L_law 334 = .ok (.aload_n 0, 1) := by decide +kernel
theorem d_L_law_335 : decode b_L_law 335 = .ok (.iload 4, 2) := by decide +kernel
theorem d_L_law_337 : decode b_L_law 337 = .ok (.iconst 2, 1) := by decide +kernel
theorem d_L_law_338 : decode b_L_law 338 = .ok (.iadd, 1) := by decide +kernel
theorem d_L_law_339 : decode b_L_law 339 = .ok (.iaload, 1) := by decide +kernel
theorem d_L_law_340 : decode b_L_law 340 = .ok (.invokevirtual 73, 3) := by decide +kernel
theorem d_L_law_343 : decode b_L_law 343 = .ok (.istore 6, 2) := by decide +kernel
theorem d_L_law_345 : decode b_L_law 345 = .ok (.aload_n 2, 1) := by decide +kernel
theorem d_L_law_346 : decode b_L_law 346 = .ok (.invokevirtual 56, 3) := by decide +kernel
theorem d_L_law_349 : decode b_L_law 349 = .ok (.iload 5, 2) := by decide +kernel
theorem d_L_law_351 : decode b_L_law 351 = .ok (.if_icmp .eq 5, 3) := by decide +kernel
theorem d_L_law_354 : decode b_L_law 354 = .ok (.iconst 0, 1) := by decide +kernel
theorem d_L_law_355 : decode b_L_law 355 = .ok (.ireturn, 1) := by decide +kernel
theorem d_L_law_356 : decode b_L_law 356 = .ok (.iload 5, 2) := by decide +kernel
theorem d_L_law_358 : decode b_L_law 358 = .ok (.ifCond .ne 15, 3) := by decide +kernel
theorem d_L_law_361 : decode b_L_law 361 = .ok (.aload_n 3, 1) := by decide +kernel
theorem d_L_law_362 : decode b_L_law 362 = .ok (.iconst 0, 1) := by decide +kernel
theorem d_L_law_363 : decode b_L_law 363 = .ok (.laload, 1) := by decide +kernel
theorem d_L_law_364 : decode b_L_law 364 = .ok (.iload 6, 2) := by decide +kernel
theorem d_L_law_366 : decode b_L_law 366 = .ok (.i2l, 1) := by decide +kernel
theorem d_L_law_367 : decode b_L_law 367 = .ok (.lcmp, 1) := by decide +kernel
theorem d_L_law_368 : decode b_L_law 368 = .ok (.ifCond .eq 5, 3) := by decide +kernel
theorem d_L_law_371 : decode b_L_law 371 = .ok (.iconst 0, 1) := by decide +kernel
theorem d_L_law_372 : decode b_L_law 372 = .ok (.ireturn, 1) := by decide +kernel
theorem d_L_law_373 : decode b_L_law 373 = .ok (.goto 240, 3) := by decide +kernel
theorem d_L_law_376 : decode b_L_law 376 = .ok (.aload_n 1, 1) := by decide +kernel
theorem d_L_law_377 : decode b_L_law 377 = .ok (.invokevirtual 74, 3) := by decide +kernel
theorem d_L_law_380 : decode b_L_law 380 = .ok (.aload_n 2, 1) := by decide +kernel
theorem d_L_law_381 : decode b_L_law 381 = .ok (.invokevirtual 77, 3) := by decide +kernel
theorem d_L_law_384 : decode b_L_law 384 = .ok (.if_icmp .eq 229, 3) := by decide +kernel
theorem d_L_law_387 : decode b_L_law 387 = .ok (.iconst 0, 1) := by decide +kernel
theorem d_L_law_388 : decode b_L_law 388 = .ok (.ireturn, 1) := by decide +kernel
theorem d_L_law_389 : decode b_L_law 389 = .ok (.aload_n 1, 1) := by decide +kernel
theorem d_L_law_390 : decode b_L_law 390 = .ok (.aload_n 0, 1) := by decide +kernel
theorem d_L_law_391 : decode b_L_law 391 = .ok (.iload 4, 2) := by decide +kernel
theorem d_L_law_393 : decode b_L_law 393 = .ok (.iconst 1, 1) := by decide +kernel
theorem d_L_law_394 : decode b_L_law 394 = .ok (.iadd, 1) := by decide +kernel
theorem d_L_law_395 : decode b_L_law 395 = .ok (.iaload, 1) := by decide +kernel
theorem d_L_law_396 : decode b_L_law 396 = .ok (.aload_n 3, 1) := by decide +kernel
theorem d_L_law_397 : decode b_L_law 397 = .ok (.invokestatic 78, 3) := by decide +kernel
theorem d_L_law_400 : decode b_L_law 400 = .ok (.istore 5, 2) := by decide +kernel
theorem d_L_law_402 : decode b_L_law 402 = .ok (.aload_n 2, 1) := by decide +kernel
theorem d_L_law_403 : decode b_L_law 403 = .ok (.aload_n 0, 1) := by decide +kernel
theorem d_L_law_404 : decode b_L_law 404 = .ok (.iload 4, 2) := by decide +kernel
theorem d_L_law_406 : decode b_L_law 406 = .ok (.iconst 1, 1) := by decide +kernel
theorem d_L_law_407 : decode b_L_law 407 = .ok (.iadd, 1) := by decide +kernel
theorem d_L_law_408 : decode b_L_law 408 = .ok (.iaload, 1) := by decide +kernel
theorem d_L_law_409 : decode b_L_law 409 = .ok (.invokevirtual 81, 3) := by decide +kernel
theorem d_L_law_412 : decode b_L_law 412 = .ok (.istore 6, 2) := by decide +kernel
theorem d_L_law_414 : decode b_L_law 414 = .ok (.aload_n 2, 1) := by decide +kernel
theorem d_L_law_415 : decode b_L_law 415 = .ok (.invokevirtual 56, 3) := by decide +kernel
theorem d_L_law_418 : decode b_L_law 418 = .ok (.iload 5, 2) := by decide +kernel
theorem d_L_law_420 : decode b_L_law 420 = .ok (.if_icmp .eq 5, 3) := by decide +kernel
theorem d_L_law_423 : decode b_L_law 423 = .ok (.iconst 0, 1) := by decide +kernel
theorem d_L_law_424 : decode b_L_law 424 = .ok (.ireturn, 1) := by decide +kernel
theorem d_L_law_425 : decode b_L_law 425 = .ok (.iload 5, 2) := by decide +kernel
theorem d_L_law_427 : decode b_L_law 427 = .ok (.ifCond .ne 15, 3) := by decide +kernel
theorem d_L_law_430 : decode b_L_law 430 = .ok (.aload_n 3, 1) := by decide +kernel
theorem d_L_law_431 : decode b_L_law 431 = .ok (.iconst 0, 1) := by decide +kernel
theorem d_L_law_432 : decode b_L_law 432 = .ok (.laload, 1) := by decide +kernel
theorem d_L_law_433 : decode b_L_law 433 = .ok (.iload 6, 2) := by decide +kernel
theorem d_L_law_435 : decode b_L_law 435 = .ok (.i2l, 1) := by decide +kernel
theorem d_L_law_436 : decode b_L_law 436 = .ok (.lcmp, 1) := by decide +kernel
theorem d_L_law_437 : decode b_L_law 437 = .ok (.ifCond .eq 5, 3) := by decide +kernel
theorem d_L_law_440 : decode b_L_law 440 = .ok (.iconst 0, 1) := by decide +kernel
theorem d_L_law_441 : decode b_L_law 441 = .ok (.ireturn, 1) := by decide +kernel
theorem d_L_law_442 : decode b_L_law 442 = .ok (.goto 171, 3) := by decide +kernel
theorem d_L_law_445 : decode b_L_law 445 = .ok (.aload_n 1, 1) := by decide +kernel
theorem d_L_law_446 : decode b_L_law 446 = .ok (.aload_n 0, 1) := by decide +kernel
theorem d_L_law_447 : decode b_L_law 447 = .ok (.iload 4, 2) := by decide +kernel
theorem d_L_law_449 : decode b_L_law 449 = .ok (.iconst 1, 1) := by decide +kernel
theorem d_L_law_450 : decode b_L_law 450 = .ok (.iadd, 1) := by decide +kernel
theorem d_L_law_451 : decode b_L_law 451 = .ok (.iaload, 1) := by decide +kernel
theorem d_L_law_452 : decode b_L_law 452 = .ok (.aload_n 3, 1) := by decide +kernel
theorem d_L_law_453 : decode b_L_law 453 = .ok (.invokestatic 82, 3) := by decide +kernel
theorem d_L_law_456 : decode b_L_law 456 = .ok (.istore 5, 2) := by decide +kernel
theorem d_L_law_458 : decode b_L_law 458 = .ok (.aload_n 2, 1) := by decide +kernel
theorem d_L_law_459 : decode b_L_law 459 = .ok (.aload_n 0, 1) := by decide +kernel
theorem d_L_law_460 : decode b_L_law 460 = .ok (.iload 4, 2) := by decide +kernel
theorem d_L_law_462 : decode b_L_law 462 = .ok (.iconst 1, 1) := by decide +kernel
theorem d_L_law_463 : decode b_L_law 463 = .ok (.iadd, 1) := by decide +kernel
theorem d_L_law_464 : decode b_L_law 464 = .ok (.iaload, 1) := by decide +kernel
theorem d_L_law_465 : decode b_L_law 465 = .ok (.invokevirtual 84, 3) := by decide +kernel
theorem d_L_law_468 : decode b_L_law 468 = .ok (.istore 6, 2) := by decide +kernel
theorem d_L_law_470 : decode b_L_law 470 = .ok (.aload_n 2, 1) := by decide +kernel
theorem d_L_law_471 : decode b_L_law 471 = .ok (.invokevirtual 56, 3) := by decide +kernel
theorem d_L_law_474 : decode b_L_law 474 = .ok (.iload 5, 2) := by decide +kernel
theorem d_L_law_476 : decode b_L_law 476 = .ok (.if_icmp .eq 5, 3) := by decide +kernel
theorem d_L_law_479 : decode b_L_law 479 = .ok (.iconst 0, 1) := by decide +kernel
theorem d_L_law_480 : decode b_L_law 480 = .ok (.ireturn, 1) := by decide +kernel
theorem d_L_law_481 : decode b_L_law 481 = .ok (.iload 5, 2) := by decide +kernel
theorem d_L_law_483 : decode b_L_law 483 = .ok (.ifCond .ne 15, 3) := by decide +kernel
theorem d_L_law_486 : decode b_L_law 486 = .ok (.aload_n 3, 1) := by decide +kernel
theorem d_L_law_487 : decode b_L_law 487 = .ok (.iconst 0, 1) := by decide +kernel
theorem d_L_law_488 : decode b_L_law 488 = .ok (.laload, 1) := by decide +kernel
theorem d_L_law_489 : decode b_L_law 489 = .ok (.iload 6, 2) := by decide +kernel
theorem d_L_law_491 : decode b_L_law 491 = .ok (.i2l, 1) := by decide +kernel
theorem d_L_law_492 : decode b_L_law 492 = .ok (.lcmp, 1) := by decide +kernel
theorem d_L_law_493 : decode b_L_law 493 = .ok (.ifCond .eq 5, 3) := by decide +kernel
theorem d_L_law_496 : decode b_L_law 496 = .ok (.iconst 0, 1) := by decide +kernel
theorem d_L_law_497 : decode b_L_law 497 = .ok (.ireturn, 1) := by decide +kernel
theorem d_L_law_498 : decode b_L_law 498 = .ok (.goto 115, 3) := by decide +kernel
theorem d_L_law_501 : decode b_L_law 501 = .ok (.aload_n 1, 1) := by decide +kernel
theorem d_L_law_502 : decode b_L_law 502 = .ok (.aload_n 0, 1) := by decide +kernel
theorem d_L_law_503 : decode b_L_law 503 = .ok (.iload 4, 2) := by decide +kernel
theorem d_L_law_505 : decode b_L_law 505 = .ok (.iconst 1, 1) := by decide +kernel
theorem d_L_law_506 : decode b_L_law 506 = .ok (.iadd, 1) := by decide +kernel
theorem d_L_law_507 : decode b_L_law 507 = .ok (.iaload, 1) := by decide +kernel
theorem d_L_law_508 : decode b_L_law 508 = .ok (.aload_n 3, 1) := by decide +kernel
theorem d_L_law_509 : decode b_L_law 509 = .ok (.invokestatic 85, 3) := by decide +kernel
theorem d_L_law_512 : decode b_L_law 512 = .ok (.istore 5, 2) := by decide +kernel
theorem d_L_law_514 : decode b_L_law 514 = .ok (.aload_n 2, 1) := by decide +kernel
theorem d_L_law_515 : decode b_L_law 515 = .ok (.aload_n 0, 1) := by decide +kernel
theorem d_L_law_516 : decode b_L_law 516 = .ok (.iload 4, 2) := by decide +kernel
theorem d_L_law_518 : decode b_L_law 518 = .ok (.iconst 1, 1) := by decide +kernel
theorem d_L_law_519 : decode b_L_law 519 = .ok (.iadd, 1) := by decide +kernel
theorem d_L_law_520 : decode b_L_law 520 = .ok (.iaload, 1) := by decide +kernel
theorem d_L_law_521 : decode b_L_law 521 = .ok (.invokevirtual 87, 3) := by decide +kernel
theorem d_L_law_524 : decode b_L_law 524 = .ok (.istore 6, 2) := by decide +kernel
theorem d_L_law_526 : decode b_L_law 526 = .ok (.aload_n 2, 1) := by decide +kernel
theorem d_L_law_527 : decode b_L_law 527 = .ok (.invokevirtual 56, 3) := by decide +kernel
theorem d_L_law_530 : decode b_L_law 530 = .ok (.iload 5, 2) := by decide +kernel
theorem d_L_law_532 : decode b_L_law 532 = .ok (.if_icmp .eq 5, 3) := by decide +kernel
theorem d_L_law_535 : decode b_L_law 535 = .ok (.iconst 0, 1) := by decide +kernel
theorem d_L_law_536 : decode b_L_law 536 = .ok (.ireturn, 1) := by decide +kernel
theorem d_L_law_537 : decode b_L_law 537 = .ok (.iload 5, 2) := by decide +kernel
theorem d_L_law_539 : decode b_L_law 539 = .ok (.ifCond .ne 15, 3) := by decide +kernel
theorem d_L_law_542 : decode b_L_law 542 = .ok (.aload_n 3, 1) := by decide +kernel
theorem d_L_law_543 : decode b_L_law 543 = .ok (.iconst 0, 1) := by decide +kernel
theorem d_L_law_544 : decode b_L_law 544 = .ok (.laload, 1) := by decide +kernel
theorem d_L_law_545 : decode b_L_law 545 = .ok (.iload 6, 2) := by decide +kernel
theorem d_L_law_547 : decode b_L_law 547 = .ok (.i2l, 1) := by decide +kernel
theorem d_L_law_548 : decode b_L_law 548 = .ok (.lcmp, 1) := by decide +kernel
theorem d_L_law_549 : decode b_L_law 549 = .ok (.ifCond .eq 5, 3) := by decide +kernel
theorem d_L_law_552 : decode b_L_law 552 = .ok (.iconst 0, 1) := by decide +kernel
theorem d_L_law_553 : decode b_L_law 553 = .ok (.ireturn, 1) := by decide +kernel
theorem d_L_law_554 : decode b_L_law 554 = .ok (.goto 59, 3) := by decide +kernel
theorem d_L_law_557 : decode b_L_law 557 = .ok (.aload_n 1, 1) := by decide +kernel
theorem d_L_law_558 : decode b_L_law 558 = .ok (.aload_n 0, 1) := by decide +kernel
theorem d_L_law_559 : decode b_L_law 559 = .ok (.iload 4, 2) := by decide +kernel
theorem d_L_law_561 : decode b_L_law 561 = .ok (.iconst 1, 1) := by decide +kernel
theorem d_L_law_562 : decode b_L_law 562 = .ok (.iadd, 1) := by decide +kernel
theorem d_L_law_563 : decode b_L_law 563 = .ok (.iaload, 1) := by decide +kernel
theorem d_L_law_564 : decode b_L_law 564 = .ok (.aload_n 3, 1) := by decide +kernel
theorem d_L_law_565 : decode b_L_law 565 = .ok (.invokestatic 88, 3) := by decide +kernel
theorem d_L_law_568 : decode b_L_law 568 = .ok (.istore 5, 2) := by decide +kernel
theorem d_L_law_570 : decode b_L_law 570 = .ok (.aload_n 2, 1) := by decide +kernel
theorem d_L_law_571 : decode b_L_law 571 = .ok (.aload_n 0, 1) := by decide +kernel
theorem d_L_law_572 : decode b_L_law 572 = .ok (.iload 4, 2) := by decide +kernel
theorem d_L_law_574 : decode b_L_law 574 = .ok (.iconst 1, 1) := by decide +kernel
theorem d_L_law_575 : decode b_L_law 575 = .ok (.iadd, 1) := by decide +kernel
theorem d_L_law_576 : decode b_L_law 576 = .ok (.iaload, 1) := by decide +kernel
theorem d_L_law_577 : decode b_L_law 577 = .ok (.invokevirtual 90, 3) := by decide +kernel
theorem d_L_law_580 : decode b_L_law 580 = .ok (.istore 6, 2) := by decide +kernel
theorem d_L_law_582 : decode b_L_law 582 = .ok (.aload_n 2, 1) := by decide +kernel
theorem d_L_law_583 : decode b_L_law 583 = .ok (.invokevirtual 56, 3) := by decide +kernel
theorem d_L_law_586 : decode b_L_law 586 = .ok (.iload 5, 2) := by decide +kernel
theorem d_L_law_588 : decode b_L_law 588 = .ok (.if_icmp .eq 5, 3) := by decide +kernel
theorem d_L_law_591 : decode b_L_law 591 = .ok (.iconst 0, 1) := by decide +kernel
theorem d_L_law_592 : decode b_L_law 592 = .ok (.ireturn, 1) := by decide +kernel
theorem d_L_law_593 : decode b_L_law 593 = .ok (.iload 5, 2) := by decide +kernel
theorem d_L_law_595 : decode b_L_law 595 = .ok (.ifCond .ne 15, 3) := by decide +kernel
theorem d_L_law_598 : decode b_L_law 598 = .ok (.aload_n 3, 1) := by decide +kernel
theorem d_L_law_599 : decode b_L_law 599 = .ok (.iconst 0, 1) := by decide +kernel
theorem d_L_law_600 : decode b_L_law 600 = .ok (.laload, 1) := by decide +kernel
theorem d_L_law_601 : decode b_L_law 601 = .ok (.iload 6, 2) := by decide +kernel
theorem d_L_law_603 : decode b_L_law 603 = .ok (.i2l, 1) := by decide +kernel
theorem d_L_law_604 : decode b_L_law 604 = .ok (.lcmp, 1) := by decide +kernel
theorem d_L_law_605 : decode b_L_law 605 = .ok (.ifCond .eq 5, 3) := by decide +kernel
theorem d_L_law_608 : decode b_L_law 608 = .ok (.iconst 0, 1) := by decide +kernel
theorem d_L_law_609 : decode b_L_law 609 = .ok (.ireturn, 1) := by decide +kernel
theorem d_L_law_610 : decode b_L_law 610 = .ok (.goto 3, 3) := by decide +kernel
theorem d_L_law_613 : decode b_L_law 613 = .ok (.iinc 4 4, 3) := by decide +kernel
theorem d_L_law_616 : decode b_L_law 616 = .ok (.goto (-593), 3) := by decide +kernel
theorem d_L_law_619 : decode b_L_law 619 = .ok (.iconst 1, 1) := by decide +kernel
theorem d_L_law_620 : decode b_L_law 620 = .ok (.ireturn, 1) := by decide +kernel
end
section
-- ===== the graph, and what it is to hold it (graph class side C, model side M) =====
/-- how many states; open; first; second; where a move goes -/
abbrev Gr : Type := Nat × (Nat → Bool) × (Nat → Int32) × (Nat → Int32) × (Nat → Nat → Nat)
abbrev Gn (G : Gr) : Nat := G.1
abbrev Gop (G : Gr) : Nat → Bool := G.2.1
abbrev Ga (G : Gr) : Nat → Int32 := G.2.2.1
abbrev Gb (G : Gr) : Nat → Int32 := G.2.2.2.1
abbrev Gx (G : Gr) : Nat → Nat → Nat := G.2.2.2.2
def jt (G : Gr) (u : Nat) : Nat := if Gop G u = true then (Ga G u * Gb G u).toNatClampNeg else 0
def okOpen (a b : Int32) : Prop := ∃ p q : Nat, a = nI p ∧ b = nI q ∧ p ≤ 12 ∧ q ≤ 12 ∧ p * q ≤ 12
def okEnd (a b : Int32) : Prop := -2 ≤ a ∧ a ≤ 100 ∧ -2 ≤ b ∧ b ≤ 100
def Good (G : Gr) : Prop := 1 ≤ Gn G ∧ Gn G ≤ 60 ∧ (∀ u, u < Gn G → Gop G u = true → okOpen (Ga G u) (Gb G u)) ∧ (∀ u, u < Gn G → Gop G u = false → okEnd (Ga G u) (Gb G u)) ∧ ∀ u j, u < Gn G → j < jt G u → Gx G u j < Gn G
def RepC (G : Gr) (h : Pic) : Prop := h 0 1 = nI (Gn G) ∧ ∀ u, u < Gn G → h (17 + u) 0 = (if Gop G u = true then 0 else 1) ∧ h (17 + u) 1 = Ga G u ∧ h (17 + u) 2 = Gb G u ∧ h (17 + u) 3 = nI (jt G u) ∧ ∀ j, j < jt G u → h (77 + u) j = nI (Gx G u j)
def RepM (G : Gr) (h : Pic) : Prop := h 4 0 = nI (Gn G) ∧ ∀ u, u < Gn G → h 5 u = (if Gop G u = true then 1 else 0) ∧ (Gop G u = true → h 8 u = Ga G u ∧ h 9 u = Gb G u) ∧ (Gop G u = false → h 6 u = Ga G u ∧ h 7 u = Gb G u) ∧ ∀ j, j < jt G u → h 10 (12 * u + j) = nI (Gx G u j)
def SameM (h h' : Pic) : Prop := ∀ k, 4 ≤ k → k ≤ 16 → h' k = h k
def SameC (h h' : Pic) : Prop := ∀ k, k < 4 ∨ 16 < k → h' k = h k
theorem SameM.rf {h : Pic} : SameM h h := fun _ _ _ => rfl
theorem SameC.rf {h : Pic} : SameC h h := fun _ _ => rfl
theorem SameM.tr {h h1 h2 : Pic} (a : SameM h h1) (b : SameM h1 h2) : SameM h h2 := fun k h1 h2 => (b k h1 h2).trans (a k h1 h2)
theorem SameC.tr {h h1 h2 : Pic} (a : SameC h h1) (b : SameC h1 h2) : SameC h h2 := fun k h1 => (b k h1).trans (a k h1)
theorem SameM.pu {h : Pic} {k i : Nat} {v : Int32} (hk : k < 4 ∨ 16 < k) : SameM h (pu h k i v) := fun q h1 h2 => pu_row (by omega)
theorem SameC.pu {h : Pic} {k i : Nat} {v : Int32} (h1 : 4 ≤ k) (h2 : k ≤ 16) : SameC h (pu h k i v) := fun q hq => pu_row (by omega)
theorem RepM.same {G : Gr} {h h' : Pic} (hR : RepM G h) (hs : SameM h h') : RepM G h' := by
  obtain ⟨a, b⟩ := hR
  refine ⟨by rw [hs 4 (by omega) (by omega)]; exact a, fun u hu => ?_⟩
  obtain ⟨b1, b2, b3, b4⟩ := b u hu
  rw [hs 5 (by omega) (by omega), hs 6 (by omega) (by omega), hs 7 (by omega) (by omega), hs 8 (by omega) (by omega), hs 9 (by omega) (by omega), hs 10 (by omega) (by omega)]
  exact ⟨b1, b2, b3, b4⟩
theorem RepC.same {G : Gr} {h h' : Pic} (hR : RepC G h) (hs : SameC h h') : RepC G h' := by
  obtain ⟨a, b⟩ := hR
  refine ⟨by rw [hs 0 (by omega)]; exact a, fun u hu => ?_⟩
  obtain ⟨b1, b2, b3, b4, b5⟩ := b u hu
  rw [hs (17 + u) (by omega), hs (77 + u) (by omega)]
  exact ⟨b1, b2, b3, b4, b5⟩
theorem okOpen_jt {a b : Int32} (h : okOpen a b) : a * b = nI (a * b).toNatClampNeg ∧ (a * b).toNatClampNeg ≤ 12 := by
  obtain ⟨p, q, rfl, rfl, hp, hq, hm⟩ := h
  rw [pk_mul, nI_clamp (by omega)]
  exact ⟨rfl, hm⟩
theorem jt_le {G : Gr} (hG : Good G) {u : Nat} (hu : u < Gn G) : jt G u ≤ 12 := by
  unfold jt
  by_cases h : Gop G u = true
  · rw [if_pos h]
    exact (okOpen_jt (hG.2.2.1 u hu h)).2
  · rw [if_neg h]
    omega
-- the moves of the graph
def upB (f : Nat → Bool) (k : Nat) (v : Bool) : Nat → Bool := fun j => if j = k then v else f j
def gStates (G : Gr) (n : Nat) : Gr := (n, fun _ => false, fun _ => 50, fun _ => 50, Gx G)
def gEnd (G : Gr) (u : Nat) (a b : Int32) : Gr := (Gn G, upB (Gop G) u false, upd (Ga G) u a, upd (Gb G) u b, Gx G)
def gOpen (G : Gr) (u : Nat) (a b : Int32) : Gr := (Gn G, upB (Gop G) u true, upd (Ga G) u a, upd (Gb G) u b, fun v j => if v = u then 0 else Gx G v j)
def gLink (G : Gr) (u j t : Nat) : Gr := (Gn G, Gop G, Ga G, Gb G, fun v i => if v = u ∧ i = j then t else Gx G v i)
theorem jt_states {G : Gr} {n u : Nat} : jt (gStates G n) u = 0 := by simp [jt, gStates, Gop]
theorem jt_end_self {G : Gr} {u : Nat} {a b : Int32} : jt (gEnd G u a b) u = 0 := by simp [jt, gEnd, upB, Gop]
theorem jt_end_ne {G : Gr} {u v : Nat} {a b : Int32} (h : v ≠ u) : jt (gEnd G u a b) v = jt G v := by simp [jt, gEnd, upB, upd, h, Gop, Ga, Gb]
theorem jt_open_self {G : Gr} {u : Nat} {a b : Int32} : jt (gOpen G u a b) u = (a * b).toNatClampNeg := by simp [jt, gOpen, upB, upd, Gop, Ga, Gb]
theorem jt_open_ne {G : Gr} {u v : Nat} {a b : Int32} (h : v ≠ u) : jt (gOpen G u a b) v = jt G v := by simp [jt, gOpen, upB, upd, h, Gop, Ga, Gb]
theorem jt_link {G : Gr} {u j t v : Nat} : jt (gLink G u j t) v = jt G v := rfl
theorem good_states {G : Gr} {n : Nat} (h1 : 1 ≤ n) (h2 : n ≤ 60) : Good (gStates G n) := by
  refine ⟨h1, h2, fun u _ h => (by cases h), fun u _ _ => (by show okEnd 50 50; exact ⟨by decide, by decide, by decide, by decide⟩), fun u j _ hj => ?_⟩
  rw [jt_states] at hj
  omega
theorem good_end {G : Gr} (hG : Good G) {u : Nat} {a b : Int32} (hab : okEnd a b) : Good (gEnd G u a b) := by
  obtain ⟨h1, h2, h3, h4, h5⟩ := hG
  refine ⟨h1, h2, fun v hv ho => ?_, fun v hv ho => ?_, fun v j hv hj => ?_⟩
  · by_cases e : v = u
    · subst e; simp [gEnd, upB, Gop] at ho
    · simp only [gEnd, upB, upd, Gop, Ga, Gb, if_neg e] at ho ⊢
      exact h3 v hv ho
  · by_cases e : v = u
    · subst e; simp only [gEnd, upd, Ga, Gb, if_pos]; exact hab
    · simp only [gEnd, upB, upd, Gop, Ga, Gb, if_neg e] at ho ⊢
      exact h4 v hv ho
  · by_cases e : v = u
    · subst e; rw [jt_end_self] at hj; omega
    · rw [jt_end_ne e] at hj
      exact h5 v j hv hj
theorem good_open {G : Gr} (hG : Good G) {u : Nat} {a b : Int32} (hab : okOpen a b) : Good (gOpen G u a b) := by
  obtain ⟨h1, h2, h3, h4, h5⟩ := hG
  refine ⟨h1, h2, fun v hv ho => ?_, fun v hv ho => ?_, fun v j hv hj => ?_⟩
  · by_cases e : v = u
    · subst e; simp only [gOpen, upd, Ga, Gb, if_pos]; exact hab
    · simp only [gOpen, upB, upd, Gop, Ga, Gb, if_neg e] at ho ⊢
      exact h3 v hv ho
  · by_cases e : v = u
    · subst e; simp [gOpen, upB, Gop] at ho
    · simp only [gOpen, upB, upd, Gop, Ga, Gb, if_neg e] at ho ⊢
      exact h4 v hv ho
  · by_cases e : v = u
    · simp only [gOpen, Gx, if_pos e]; show 0 < Gn G; omega
    · rw [jt_open_ne e] at hj
      simp only [gOpen, Gx, Gn, if_neg e]
      exact h5 v j hv hj
theorem good_link {G : Gr} (hG : Good G) {u j t : Nat} (ht : t < Gn G) : Good (gLink G u j t) := by
  obtain ⟨h1, h2, h3, h4, h5⟩ := hG
  refine ⟨h1, h2, h3, h4, fun v i hv hi => ?_⟩
  by_cases e : v = u ∧ i = j
  · simp only [gLink, Gx, Gn, if_pos e]; exact ht
  · simp only [gLink, Gx, Gn, if_neg e]
    exact h5 v i hv hi
end
section
-- ===== further rows =====
theorem VX_wide {l : Launch} {R : Room} {args : Array Value} {M : MT} {g : Gh} {nL : Nat} {Q : State → Prop} {cells slots c' s' : Nat} {h : Pic} {X : String} {pc : Nat} {lv : List (Nat × Value)} {st : List Value} (h1 : cells ≤ c') (h2 : slots ≤ s') (k : VX l R args M g nL Q c' s' h X pc lv st) : VX l R args M g nL Q cells slots h X pc lv st :=
  fun H locs la x cell hP hS hl hc hst hcl T hT XX => k H locs la x cell hP hS hl hc hst hcl T hT (stand_widen XX h1 h2)
section VMX
variable {l : Launch} {R : Room} {args : Array Value} {M : MT} {g : Gh} {cc : ByteArray} {nL : Nat} {Q : State → Prop} {cells slots : Nat} {h : Pic} {pc : Nat} {lv : List (Nat × Value)} {st : List Value}
theorem V_mmax (C : Cx args M g "GameGraph" cc nL) {x y : Int32} (hR : 1 ≤ R.frames ∧ (st.map fun v => v.category).sum + 13 ≤ R.locals) (hRc : cells ≤ R.cells ∧ slots ≤ R.slots) (d : decode cc pc = .ok (.invokestatic 87, 3)) (k : V l R args M g nL Q cells slots h (pc + 3) lv (.int (if x < y then y else x) :: st)) : V l R args M g nL Q cells slots h pc lv (.int y :: .int x :: st) :=
  fun H locs la hP hS hl => va_mmax C.1 C.2.1 (by rw [hl.1]; exact C.2.2.1) C.2.2.2.1 (C.w wm_max_l) (C.w wm_max_s) (C.w wm_z) (C.w wm_max_c) hR.1 hR.2 hRc.1 hRc.2 d (k H locs la hP hS hl)
theorem V_mmin (C : Cx args M g "GameGraph" cc nL) {x y : Int32} (hR : 1 ≤ R.frames ∧ (st.map fun v => v.category).sum + 13 ≤ R.locals) (hRc : cells ≤ R.cells ∧ slots ≤ R.slots) (d : decode cc pc = .ok (.invokestatic 121, 3)) (k : V l R args M g nL Q cells slots h (pc + 3) lv (.int (if y < x then y else x) :: st)) : V l R args M g nL Q cells slots h pc lv (.int y :: .int x :: st) :=
  fun H locs la hP hS hl => va_mmin C.1 C.2.1 (by rw [hl.1]; exact C.2.2.1) C.2.2.2.1 (C.w wm_min_l) (C.w wm_min_s) (C.w wm_z) (C.w wm_min_c) hR.1 hR.2 hRc.1 hRc.2 d (k H locs la hP hS hl)
end VMX
end
section
-- ===== plain laws: reaching, counting, ranks, values, lengths =====
def Edge (G : Gr) (u v : Nat) : Prop := u < Gn G ∧ ∃ j, j < jt G u ∧ Gx G u j = v
def Reach (G : Gr) (u v : Nat) : Prop := ∀ S : Nat → Prop, S u → (∀ a b, S a → Edge G a b → S b) → S v
def Cyc (G : Gr) (u : Nat) : Prop := ∃ w, Edge G u w ∧ Reach G w u
theorem Reach.rf {G : Gr} {u : Nat} : Reach G u u := fun _ h _ => h
theorem Reach.st {G : Gr} {u v w : Nat} (h : Reach G u v) (e : Edge G v w) : Reach G u w := fun S h0 hs => hs v w (h S h0 hs) e
theorem Reach.tr {G : Gr} {u v w : Nat} (h : Reach G u v) (h2 : Reach G v w) : Reach G u w := h2 (fun x => Reach G u x) h (fun _ _ ha e => ha.st e)
theorem Reach.hd {G : Gr} {u v w : Nat} (e : Edge G u v) (h : Reach G v w) : Reach G u w := (Reach.rf.st e).tr h
theorem Edge.lt {G : Gr} (hG : Good G) {u v : Nat} (e : Edge G u v) : v < Gn G := by
  obtain ⟨h1, j, h2, rfl⟩ := e
  exact hG.2.2.2.2 u j h1 h2
theorem Reach.lt {G : Gr} (hG : Good G) {u v : Nat} (hu : u < Gn G) (h : Reach G u v) : v < Gn G := h (fun x => x < Gn G) hu (fun _ _ _ e => e.lt hG)
/-- how many below n -/
noncomputable def cnt (P : Nat → Prop) : Nat → Nat
  | 0 => 0
  | n + 1 => cnt P n + @ite _ (P n) (Classical.propDecidable _) 1 0
theorem cnt_s {P : Nat → Prop} {n : Nat} (h : P n) : cnt P (n + 1) = cnt P n + 1 := by
  show cnt P n + @ite _ (P n) (Classical.propDecidable _) 1 0 = _
  rw [if_pos h]
theorem cnt_n {P : Nat → Prop} {n : Nat} (h : ¬ P n) : cnt P (n + 1) = cnt P n := by
  show cnt P n + @ite _ (P n) (Classical.propDecidable _) 1 0 = _
  rw [if_neg h]
  rfl
theorem cnt_le (P : Nat → Prop) (n : Nat) : cnt P n ≤ n := by
  induction n with
  | zero => exact Nat.le_refl 0
  | succ n ih =>
    by_cases h : P n
    · rw [cnt_s h]; omega
    · rw [cnt_n h]; omega
theorem cnt_mono {P Q : Nat → Prop} {n : Nat} (h : ∀ k, k < n → P k → Q k) : cnt P n ≤ cnt Q n := by
  induction n with
  | zero => exact Nat.le_refl 0
  | succ n ih =>
    have ih := ih (fun k hk => h k (by omega))
    by_cases hp : P n
    · rw [cnt_s hp, cnt_s (h n (by omega) hp)]; omega
    · rw [cnt_n hp]
      by_cases hq : Q n
      · rw [cnt_s hq]; omega
      · rw [cnt_n hq]; exact ih
theorem cnt_congr {P Q : Nat → Prop} {n : Nat} (h : ∀ k, k < n → (P k ↔ Q k)) : cnt P n = cnt Q n :=
  Nat.le_antisymm (cnt_mono fun k hk => (h k hk).mp) (cnt_mono fun k hk => (h k hk).mpr)
theorem cnt_strict {P Q : Nat → Prop} {n k : Nat} (h : ∀ k, k < n → P k → Q k) (hk : k < n) (hq : Q k) (hp : ¬ P k) : cnt P n < cnt Q n := by
  induction n with
  | zero => omega
  | succ n ih =>
    by_cases e : k = n
    · subst e
      have := cnt_mono (P := P) (Q := Q) (n := k) (fun i hi => h i (by omega))
      rw [cnt_n hp, cnt_s hq]; omega
    · have ih := ih (fun i hi => h i (by omega)) (by omega)
      by_cases hpn : P n
      · rw [cnt_s hpn, cnt_s (h n (by omega) hpn)]; omega
      · rw [cnt_n hpn]
        by_cases hqn : Q n
        · rw [cnt_s hqn]; omega
        · rw [cnt_n hqn]; exact ih
theorem cnt_true (n : Nat) : cnt (fun _ => True) n = n := by
  induction n with
  | zero => rfl
  | succ n ih => rw [cnt_s trivial, ih]
theorem cnt_lt {P : Nat → Prop} {n k : Nat} (hk : k < n) (hp : ¬ P k) : cnt P n < n := by
  have := cnt_strict (P := P) (Q := fun _ => True) (n := n) (fun _ _ _ => trivial) hk trivial hp
  rwa [cnt_true] at this
theorem cnt_full {P : Nat → Prop} {n : Nat} (h : n ≤ cnt P n) {k : Nat} (hk : k < n) : P k := Classical.byContradiction fun hp => by
  have := cnt_lt hk hp
  omega
theorem cnt_add {P Q : Nat → Prop} {n k : Nat} (hk : k < n) (hp : ¬ P k) (h : ∀ i, i < n → (Q i ↔ P i ∨ i = k)) : cnt Q n = cnt P n + 1 := by
  induction n with
  | zero => omega
  | succ n ih =>
    by_cases e : k = n
    · subst e
      rw [cnt_s ((h k (by omega)).mpr (Or.inr rfl)), cnt_n hp, cnt_congr (fun i hi => ?_)]
      rw [h i (by omega)]
      constructor
      · rintro (q | q)
        · exact q
        · omega
      · exact Or.inl
    · have ih := ih (by omega) (fun i hi => h i (by omega))
      by_cases hpn : P n
      · rw [cnt_s hpn, cnt_s ((h n (by omega)).mpr (Or.inl hpn)), ih]
      · rw [cnt_n hpn, cnt_n (fun q => ?_), ih]
        rcases (h n (by omega)).mp q with q | q
        · exact hpn q
        · omega
/-- strictly below u -/
def Dn (G : Gr) (u w : Nat) : Prop := ∃ x, Edge G u x ∧ Reach G x w
noncomputable def rk (G : Gr) (u : Nat) : Nat := cnt (Dn G u) (Gn G)
theorem rk_lt {G : Gr} (hG : Good G) {u v : Nat} (e : Edge G u v) (hc : ¬ Cyc G v) : rk G v < rk G u :=
  cnt_strict (k := v) (fun _ _ ⟨_, ex, hx⟩ => ⟨v, e, Reach.hd ex hx⟩) (e.lt hG) ⟨v, e, Reach.rf⟩ hc
theorem rk_bd {G : Gr} {u : Nat} (hu : u < Gn G) (hc : ¬ Cyc G u) : rk G u < Gn G := cnt_lt hu hc
-- a state's own defect
def own (G : Gr) (u : Nat) : Int32 := if Gop G u = true then (if jt G u = 0 then 2 else if 1 < Ga G u ∧ 1 < Gb G u then 3 else 0) else if Ga G u < 0 ∨ Gb G u < 0 then 4 else if Ga G u + Gb G u ≠ 100 then 5 else 0
/-- the first defect: what, and where -/
def Def (G : Gr) (d w : Int32) : Prop :=
  (∃ u, u < Gn G ∧ Reach G 0 u ∧ own G u ≠ 0 ∧ (∀ v, v < u → Reach G 0 v → own G v = 0) ∧ d = own G u ∧ w = nI u) ∨
  ((∀ v, v < Gn G → Reach G 0 v → own G v = 0) ∧ ∃ u, u < Gn G ∧ Reach G 0 u ∧ Cyc G u ∧ (∀ v, v < u → Reach G 0 v → ¬ Cyc G v) ∧ d = 6 ∧ w = nI u) ∨
  ((∀ v, v < Gn G → Reach G 0 v → own G v = 0) ∧ (∀ v, v < Gn G → Reach G 0 v → ¬ Cyc G v) ∧ d = 0 ∧ w = -1)
theorem Def.uniq {G : Gr} {d w d' w' : Int32} (h : Def G d w) (h' : Def G d' w') : d = d' ∧ w = w' := by
  rcases h with ⟨u, a1, a2, a3, a4, rfl, rfl⟩ | ⟨a0, u, a1, a2, a3, a4, rfl, rfl⟩ | ⟨a0, a1, rfl, rfl⟩ <;> rcases h' with ⟨v, b1, b2, b3, b4, rfl, rfl⟩ | ⟨b0, v, b1, b2, b3, b4, rfl, rfl⟩ | ⟨b0, b1, rfl, rfl⟩
  · rcases Nat.lt_trichotomy u v with q | q | q
    · exact absurd (b4 u q a2) a3
    · subst q; exact ⟨rfl, rfl⟩
    · exact absurd (a4 v q b2) b3
  · exact absurd (b0 u a1 a2) a3
  · exact absurd (b0 u a1 a2) a3
  · exact absurd (a0 v b1 b2) b3
  · rcases Nat.lt_trichotomy u v with q | q | q
    · exact absurd a3 (b4 u q a2)
    · subst q; exact ⟨rfl, rfl⟩
    · exact absurd b3 (a4 v q b2)
  · exact absurd a3 (b1 u a1 a2)
  · exact absurd (a0 v b1 b2) b3
  · exact absurd b3 (a1 v b1 b2)
  · exact ⟨rfl, rfl⟩
theorem own_small {G : Gr} {u : Nat} : own G u ≠ 6 := by
  unfold own
  repeat' split
  all_goals decide
/-- nothing that is reached has a defect -/
def Sane (G : Gr) : Prop := (∀ v, v < Gn G → Reach G 0 v → own G v = 0) ∧ ∀ v, v < Gn G → Reach G 0 v → ¬ Cyc G v
theorem Def.sane {G : Gr} {w : Int32} (h : Def G 0 w) : Sane G := by
  rcases h with ⟨u, a1, a2, a3, a4, e, _⟩ | ⟨a0, u, a1, a2, a3, a4, e, _⟩ | ⟨a0, a1, _, _⟩
  · exact absurd e.symm a3
  · exact absurd e (by decide)
  · exact ⟨a0, a1⟩
theorem Def.insane {G : Gr} {d w : Int32} (h : Def G d w) (hs : Sane G) : d = 0 ∧ w = -1 := h.uniq (Or.inr (Or.inr ⟨hs.1, hs.2, rfl, rfl⟩))
-- values
def bst (m : Bool) (w : Nat → Int32) : Nat → Int32
  | 0 => 0
  | 1 => w 0
  | k + 2 => if m = true then (if bst m w (k + 1) < w (k + 1) then w (k + 1) else bst m w (k + 1)) else (if w (k + 1) < bst m w (k + 1) then w (k + 1) else bst m w (k + 1))
def FV (G : Gr) (v : Nat → Int32) (u : Nat) : Int32 := if Gop G u = true then bst (decide (1 < Ga G u)) (fun j => v (Gx G u j)) (jt G u) else Ga G u
def itV (G : Gr) : Nat → Nat → Int32
  | 0, _ => 0
  | f + 1, u => FV G (itV G f) u
def VAL (G : Gr) (u : Nat) : Int32 := itV G 61 u
theorem bst_congr {m : Bool} {w w' : Nat → Int32} {k : Nat} (h : ∀ j, j < k → w j = w' j) : bst m w k = bst m w' k := by
  induction k with
  | zero => rfl
  | succ k ih =>
    cases k with
    | zero => exact h 0 (by omega)
    | succ k =>
      have e := ih (fun j hj => h j (by omega))
      simp only [bst, e, h (k + 1) (by omega)]
theorem FV_congr {G : Gr} {v w : Nat → Int32} {u : Nat} (h : ∀ j, j < jt G u → v (Gx G u j) = w (Gx G u j)) : FV G v u = FV G w u := by
  unfold FV
  by_cases ho : Gop G u = true
  · rw [if_pos ho, if_pos ho]; exact bst_congr h
  · rw [if_neg ho, if_neg ho]
theorem edge_of {G : Gr} {u j : Nat} (hu : u < Gn G) (hj : j < jt G u) : Edge G u (Gx G u j) := ⟨hu, j, hj, rfl⟩
theorem it_stable {G : Gr} (hG : Good G) (hs : Sane G) : ∀ (f f' u : Nat), u < Gn G → Reach G 0 u → rk G u < f → rk G u < f' → itV G f u = itV G f' u := by
  intro f
  induction f with
  | zero => intro f' u _ _ h; omega
  | succ f ih =>
    intro f' u hu hr h1 h2
    cases f' with
    | zero => omega
    | succ f' =>
      refine FV_congr (fun j hj => ?_)
      have e := edge_of hu hj
      have hr' := hr.st e
      have hl := rk_lt hG e (hs.2 _ (e.lt hG) hr')
      exact ih f' _ (e.lt hG) hr' (by omega) (by omega)
theorem VAL_eq {G : Gr} (hG : Good G) (hs : Sane G) {u : Nat} (hu : u < Gn G) (hr : Reach G 0 u) : VAL G u = FV G (VAL G) u := by
  show FV G (itV G 60) u = FV G (itV G 61) u
  refine FV_congr (fun j hj => ?_)
  have e := edge_of hu hj
  have hr' := hr.st e
  have hl := rk_lt hG e (hs.2 _ (e.lt hG) hr')
  have hb := rk_bd hu (hs.2 u hu hr)
  have h60 := hG.2.1
  exact it_stable hG hs 60 61 _ (e.lt hG) hr' (by omega) (by omega)
-- lengths
def lnf (w : Nat → Nat) : Nat → Nat
  | 0 => 0
  | k + 1 => if lnf w k < w k + 1 then w k + 1 else lnf w k
def FL (G : Gr) (v : Nat → Nat) (u : Nat) : Nat := lnf (fun j => v (Gx G u j)) (jt G u)
def itL (G : Gr) : Nat → Nat → Nat
  | 0, _ => 0
  | f + 1, u => FL G (itL G f) u
def LEN (G : Gr) (u : Nat) : Nat := itL G 61 u
theorem lnf_congr {w w' : Nat → Nat} {k : Nat} (h : ∀ j, j < k → w j = w' j) : lnf w k = lnf w' k := by
  induction k with
  | zero => rfl
  | succ k ih =>
    have e := ih (fun j hj => h j (by omega))
    simp only [lnf, e, h k (by omega)]
theorem itL_stable {G : Gr} (hG : Good G) (hs : Sane G) : ∀ (f f' u : Nat), u < Gn G → Reach G 0 u → rk G u < f → rk G u < f' → itL G f u = itL G f' u := by
  intro f
  induction f with
  | zero => intro f' u _ _ h; omega
  | succ f ih =>
    intro f' u hu hr h1 h2
    cases f' with
    | zero => omega
    | succ f' =>
      refine lnf_congr (fun j hj => ?_)
      have e := edge_of hu hj
      have hr' := hr.st e
      have hl := rk_lt hG e (hs.2 _ (e.lt hG) hr')
      exact ih f' _ (e.lt hG) hr' (by omega) (by omega)
theorem LEN_eq {G : Gr} (hG : Good G) (hs : Sane G) {u : Nat} (hu : u < Gn G) (hr : Reach G 0 u) : LEN G u = FL G (LEN G) u := by
  show FL G (itL G 60) u = FL G (itL G 61) u
  refine lnf_congr (fun j hj => ?_)
  have e := edge_of hu hj
  have hr' := hr.st e
  have hl := rk_lt hG e (hs.2 _ (e.lt hG) hr')
  have hb := rk_bd hu (hs.2 u hu hr)
  have h60 := hG.2.1
  exact itL_stable hG hs 60 61 _ (e.lt hG) hr' (by omega) (by omega)
theorem lnf_le {w : Nat → Nat} {k b : Nat} (h : ∀ j, j < k → w j < b) : lnf w k ≤ b := by
  induction k with
  | zero => exact Nat.zero_le _
  | succ k ih =>
    have e := ih (fun j hj => h j (by omega))
    have := h k (by omega)
    simp only [lnf]
    split <;> omega
theorem itL_rk {G : Gr} (hG : Good G) (hs : Sane G) : ∀ (f u : Nat), u < Gn G → Reach G 0 u → itL G f u ≤ rk G u := by
  intro f
  induction f with
  | zero => intro u _ _; exact Nat.zero_le _
  | succ f ih =>
    intro u hu hr
    refine lnf_le (fun j hj => ?_)
    have e := edge_of hu hj
    have hr' := hr.st e
    have hl := rk_lt hG e (hs.2 _ (e.lt hG) hr')
    have := ih _ (e.lt hG) hr'
    omega
theorem LEN_lt {G : Gr} (hG : Good G) (hs : Sane G) {u : Nat} (hu : u < Gn G) (hr : Reach G 0 u) : LEN G u < 60 := by
  have h1 := itL_rk hG hs 61 u hu hr
  have h2 := rk_bd hu (hs.2 u hu hr)
  have h3 := hG.2.1
  unfold LEN
  omega
end
section
-- ===== printed by gen/w1.py: leaf methods =====
theorem i32_lt {a b : Int32} : a < b ↔ a.toInt < b.toInt := Int32.lt_iff_toInt_lt
theorem i32_le {a b : Int32} : a ≤ b ↔ a.toInt ≤ b.toInt := Int32.le_iff_toInt_le
theorem i32_eq {a b : Int32} : a = b ↔ a.toInt = b.toInt := Int32.toInt_inj.symm
theorem nar_b {y : Int32} (hy : y = 0 ∨ y = 1) : narrow .boolean (.int y) = .int y ∧ fits .boolean (.int y) = true := by
  rcases hy with rfl | rfl <;> exact ⟨rfl, rfl⟩
theorem nI_m1 {n : Nat} (hn : n ≤ 60) : (nI n - 1).toInt = (n : Int) - 1 := by
  have h1 : (nI n).toInt = (n : Int) := nI_toInt (by omega)
  rw [Int32.toInt_sub, h1, show (1 : Int32).toInt = 1 from rfl]
  exact Int.bmod_eq_of_le (by omega) (by omega)
theorem ix_of {n : Nat} {x i : Int32} (hn : n ≤ 60) (hc : x = nI n) (hin : 0 ≤ i ∧ i ≤ x - 1) : ∃ u, u < n ∧ i = nI u := by
  subst hc
  rw [i32_le, i32_le, nI_m1 hn, show (0 : Int32).toInt = 0 from rfl] at hin
  refine ⟨i.toInt.toNat, by omega, ?_⟩
  rw [i32_eq, nI_toInt (by omega)]
  omega
theorem ix_in {n u : Nat} {x : Int32} (hn : n ≤ 60) (hc : x = nI n) (hu : u < n) : 0 ≤ nI u ∧ nI u ≤ x - 1 := by
  subst hc
  rw [i32_le, i32_le, nI_m1 hn, show (0 : Int32).toInt = 0 from rfl, nI_toInt (by omega)]
  omega
theorem ix_no {n u : Nat} {x i : Int32} (hn : n ≤ 60) (hc : x = nI n) (hu : u < n) (e : i = nI u) (he : (if 0 ≤ i ∧ i ≤ x - 1 then (1 : Int32) else 0) = 0) : False := by
  subst e
  rw [if_pos (ix_in hn hc hu)] at he
  exact absurd he (by decide)
set_option maxHeartbeats 4000000 in
/-- is(v, low, high) -/
theorem c_G_is {l : Launch} {g : Gh} (E : gOk g ∧ l.stackTraces = false) (h : Pic) (v lo hi : Int32) : Ct l g y_G_is k_G_is (RM 1 0 0) [.int v, .int lo, .int hi] h (fun r h1 => h1 = h ∧ r = some (.int (if lo ≤ v ∧ v ≤ hi then 1 else 0))) (fun _ _ => False) := by
  refine Ct_of E.1 E.2 (by decide) (Nat.le_of_ble_eq_true rfl) (fun M C hr hx => ?_)
  have C : Cx _ M g "GameGraph" b_G_is 3 := C
  refine V_lv [(0, .int v), (1, .int lo), (2, .int hi)] rfl ?_
  refine V_iload_n C d_G_is_0 rfl ?_
  refine V_iload_n C d_G_is_1 rfl ?_
  refine V_icmp_lt C 14 d_G_is_2 (by decide) (fun c1 => ?_) (fun c1 => ?_)
  · refine V_iconst (v := 0) C d_G_is_14 (by decide) ?_
    exact V_iret C hr rfl d_G_is_15 ⟨rfl, by rw [if_neg (fun q => Int32.not_le.mpr c1 q.1)]⟩
  · refine V_iload_n C d_G_is_5 rfl ?_
    refine V_iload_n C d_G_is_6 rfl ?_
    refine V_icmp_gt C 14 d_G_is_7 (by decide) (fun c2 => ?_) (fun c2 => ?_)
    · refine V_iconst (v := 0) C d_G_is_14 (by decide) ?_
      exact V_iret C hr rfl d_G_is_15 ⟨rfl, by rw [if_neg (fun q => Int32.not_le.mpr c2 q.2)]⟩
    · refine V_iconst (v := 1) C d_G_is_10 (by decide) ?_
      refine V_goto C 15 d_G_is_11 (by decide) ?_
      exact V_iret C hr rfl d_G_is_15 ⟨rfl, by rw [if_pos ⟨Int32.not_lt.mp c1, Int32.not_lt.mp c2⟩]⟩
set_option maxHeartbeats 4000000 in
theorem c_G_need {l : Launch} {g : Gh} (E : gOk g ∧ l.stackTraces = false) (h : Pic) (b : Int32) : Ct l g y_G_need k_G_need (RM 8 1 6) [.int b] h (fun r h1 => h1 = h ∧ r = none ∧ b ≠ 0) (fun X h1 => h1 = h ∧ X = "java/lang/IllegalArgumentException" ∧ b = 0) := by
  refine Ct_of E.1 E.2 (by decide) (Nat.le_of_ble_eq_true rfl) (fun M C hr hx => ?_)
  have C : Cx _ M g "GameGraph" b_G_need 1 := C
  refine V_lv [(0, .int b)] rfl ?_
  refine V_iload_n C d_G_need_0 rfl ?_
  refine V_if_ne C 12 d_G_need_1 (by decide) (fun c1 => ?_) (fun c1 => ?_)
  · refine V_wide (c' := 1) (s' := 6) (by decide) (by decide) ?_
    exact V_vret C hr d_G_need_12 ⟨rfl, rfl, c1⟩
  · exact V_throw C hx (names := ["java/lang/RuntimeException", "java/lang/Exception"]) (by decide) (by decide) wown_IA wk_G_32 wx_IA wz_IA d_G_need_4 d_G_need_7 d_G_need_8 d_G_need_11 ⟨by decide, by decide⟩ (by decide) (by decide) ⟨rfl, rfl, c1⟩
set_option maxHeartbeats 4000000 in
theorem c_G_there {l : Launch} {g : Gh} (E : gOk g ∧ l.stackTraces = false) (h : Pic) (b : Int32) : Ct l g y_G_there k_G_there (RM 8 1 6) [.int b] h (fun r h1 => h1 = h ∧ r = none ∧ b ≠ 0) (fun X h1 => h1 = h ∧ X = "java/lang/IndexOutOfBoundsException" ∧ b = 0) := by
  refine Ct_of E.1 E.2 (by decide) (Nat.le_of_ble_eq_true rfl) (fun M C hr hx => ?_)
  have C : Cx _ M g "GameGraph" b_G_there 1 := C
  refine V_lv [(0, .int b)] rfl ?_
  refine V_iload_n C d_G_there_0 rfl ?_
  refine V_if_ne C 12 d_G_there_1 (by decide) (fun c1 => ?_) (fun c1 => ?_)
  · refine V_wide (c' := 1) (s' := 6) (by decide) (by decide) ?_
    exact V_vret C hr d_G_there_12 ⟨rfl, rfl, c1⟩
  · exact V_throw C hx (names := ["java/lang/RuntimeException", "java/lang/Exception"]) (by decide) (by decide) wown_IO wk_G_35 wx_IO wz_IO d_G_there_4 d_G_there_7 d_G_there_8 d_G_there_11 ⟨by decide, by decide⟩ (by decide) (by decide) ⟨rfl, rfl, c1⟩
set_option maxHeartbeats 4000000 in
theorem c_S_end {l : Launch} {g : Gh} (E : gOk g ∧ l.stackTraces = false) (h : Pic) (u : Nat) (hu : u < 60) (a b : Int32) : Ct l g y_S_end k_S_end (RM 1 0 0) [.ref (gA g (17 + u)), .int a, .int b] h (fun r h1 => r = none ∧ h1 = pu (pu (pu (pu h (17 + u) 0 1) (17 + u) 1 a) (17 + u) 2 b) (17 + u) 3 0) (fun _ _ => False) := by
  refine Ct_of E.1 E.2 (by decide) (Nat.le_of_ble_eq_true rfl) (fun M C hr hx => ?_)
  have C : Cx _ M g "GameGraph$State" b_S_end 3 := C
  refine V_lv [(0, .ref (gA g (17 + u))), (1, .int a), (2, .int b)] rfl ?_
  refine V_aload_n C d_S_end_0 rfl ?_
  refine V_iconst (v := 1) C d_S_end_1 (by decide) ?_
  refine V_putS C u hu 0 (by decide) wf_S_15 rfl rfl rfl rfl d_S_end_2 (fun h1 eh1 => ?_)
  refine V_aload_n C d_S_end_5 rfl ?_
  refine V_iload_n C d_S_end_6 rfl ?_
  refine V_putS C u hu 1 (by decide) wf_S_19 rfl rfl rfl rfl d_S_end_7 (fun h2 eh2 => ?_)
  refine V_aload_n C d_S_end_10 rfl ?_
  refine V_iload_n C d_S_end_11 rfl ?_
  refine V_putS C u hu 2 (by decide) wf_S_23 rfl rfl rfl rfl d_S_end_12 (fun h3 eh3 => ?_)
  refine V_aload_n C d_S_end_15 rfl ?_
  refine V_iconst (v := 0) C d_S_end_16 (by decide) ?_
  refine V_putS C u hu 3 (by decide) wf_S_26 rfl rfl rfl rfl d_S_end_17 (fun h4 eh4 => ?_)
  exact V_vret C hr d_S_end_20 ⟨rfl, by rw [eh4, eh3, eh2, eh1]⟩
set_option maxHeartbeats 4000000 in
theorem c_S_defect {l : Launch} {g : Gh} (E : gOk g ∧ l.stackTraces = false) (h : Pic) (u : Nat) (hu : u < 60) : Ct l g y_S_defect k_S_defect (RM 1 0 0) [.ref (gA g (17 + u))] h (fun r h1 => h1 = h ∧ r = some (.int (if h (17 + u) 0 ≠ 0 then (if h (17 + u) 1 < 0 ∨ h (17 + u) 2 < 0 then 4 else if h (17 + u) 1 + h (17 + u) 2 ≠ 100 then 5 else 0) else if h (17 + u) 3 = 0 then 2 else if 1 < h (17 + u) 1 ∧ 1 < h (17 + u) 2 then 3 else 0))) (fun _ _ => False) := by
  refine Ct_of E.1 E.2 (by decide) (Nat.le_of_ble_eq_true rfl) (fun M C hr hx => ?_)
  have C : Cx _ M g "GameGraph$State" b_S_defect 1 := C
  refine V_lv [(0, .ref (gA g (17 + u)))] rfl ?_
  refine V_aload_n C d_S_defect_0 rfl ?_
  refine V_getS C u hu 0 (by decide) wf_S_15 rfl rfl d_S_defect_1 ?_
  refine V_if_eq C 45 d_S_defect_4 (by decide) (fun c1 => ?_) (fun c1 => ?_)
  · refine V_aload_n C d_S_defect_45 rfl ?_
    refine V_getS C u hu 3 (by decide) wf_S_26 rfl rfl d_S_defect_46 ?_
    refine V_if_ne C 56 d_S_defect_49 (by decide) (fun c2 => ?_) (fun c2 => ?_)
    · refine V_aload_n C d_S_defect_56 rfl ?_
      refine V_getS C u hu 1 (by decide) wf_S_19 rfl rfl d_S_defect_57 ?_
      refine V_iconst (v := 1) C d_S_defect_60 (by decide) ?_
      refine V_icmp_le C 76 d_S_defect_61 (by decide) (fun c3 => ?_) (fun c3 => ?_)
      · refine V_iconst (v := 0) C d_S_defect_76 (by decide) ?_
        exact V_iret C hr rfl d_S_defect_77 ⟨rfl, by first | (simp_all [Int32.not_lt, Int32.not_le]; done) | (simp_all [Int32.not_lt, Int32.not_le]; intro q; exact absurd q (Int32.not_lt.mpr c3))⟩
      · refine V_aload_n C d_S_defect_64 rfl ?_
        refine V_getS C u hu 2 (by decide) wf_S_23 rfl rfl d_S_defect_65 ?_
        refine V_iconst (v := 1) C d_S_defect_68 (by decide) ?_
        refine V_icmp_le C 76 d_S_defect_69 (by decide) (fun c4 => ?_) (fun c4 => ?_)
        · refine V_iconst (v := 0) C d_S_defect_76 (by decide) ?_
          exact V_iret C hr rfl d_S_defect_77 ⟨rfl, by first | (simp_all [Int32.not_lt, Int32.not_le]; done) | (simp_all [Int32.not_lt, Int32.not_le]; intro q; exact absurd q (Int32.not_lt.mpr c3))⟩
        · refine V_iconst (v := 3) C d_S_defect_72 (by decide) ?_
          refine V_goto C 77 d_S_defect_73 (by decide) ?_
          exact V_iret C hr rfl d_S_defect_77 ⟨rfl, by first | (simp_all [Int32.not_lt, Int32.not_le]; done) | (simp_all [Int32.not_lt, Int32.not_le]; intro q; exact absurd q (Int32.not_lt.mpr c3))⟩
    · refine V_iconst (v := 2) C d_S_defect_52 (by decide) ?_
      refine V_goto C 77 d_S_defect_53 (by decide) ?_
      exact V_iret C hr rfl d_S_defect_77 ⟨rfl, by first | (simp_all [Int32.not_lt, Int32.not_le]; done) | (simp_all [Int32.not_lt, Int32.not_le]; intro q; exact absurd q (Int32.not_lt.mpr c3))⟩
  · refine V_aload_n C d_S_defect_7 rfl ?_
    refine V_getS C u hu 1 (by decide) wf_S_19 rfl rfl d_S_defect_8 ?_
    refine V_if_lt C 21 d_S_defect_11 (by decide) (fun c2 => ?_) (fun c2 => ?_)
    · refine V_iconst (v := 4) C d_S_defect_21 (by decide) ?_
      refine V_goto C 44 d_S_defect_22 (by decide) ?_
      exact V_iret C hr rfl d_S_defect_44 ⟨rfl, by first | (simp_all [Int32.not_lt, Int32.not_le]; done) | (simp_all [Int32.not_lt, Int32.not_le]; intro q; exact absurd q (Int32.not_lt.mpr c3))⟩
    · refine V_aload_n C d_S_defect_14 rfl ?_
      refine V_getS C u hu 2 (by decide) wf_S_23 rfl rfl d_S_defect_15 ?_
      refine V_if_ge C 25 d_S_defect_18 (by decide) (fun c3 => ?_) (fun c3 => ?_)
      · refine V_aload_n C d_S_defect_25 rfl ?_
        refine V_getS C u hu 1 (by decide) wf_S_19 rfl rfl d_S_defect_26 ?_
        refine V_aload_n C d_S_defect_29 rfl ?_
        refine V_getS C u hu 2 (by decide) wf_S_23 rfl rfl d_S_defect_30 ?_
        refine V_iadd C d_S_defect_33 ?_
        refine V_bipush (v := 100) C d_S_defect_34 (by decide) ?_
        refine V_icmp_eq C 43 d_S_defect_36 (by decide) (fun c4 => ?_) (fun c4 => ?_)
        · refine V_iconst (v := 0) C d_S_defect_43 (by decide) ?_
          exact V_iret C hr rfl d_S_defect_44 ⟨rfl, by first | (simp_all [Int32.not_lt, Int32.not_le]; done) | (simp_all [Int32.not_lt, Int32.not_le]; intro q; exact absurd q (Int32.not_lt.mpr c3))⟩
        · refine V_iconst (v := 5) C d_S_defect_39 (by decide) ?_
          refine V_goto C 44 d_S_defect_40 (by decide) ?_
          exact V_iret C hr rfl d_S_defect_44 ⟨rfl, by first | (simp_all [Int32.not_lt, Int32.not_le]; done) | (simp_all [Int32.not_lt, Int32.not_le]; intro q; exact absurd q (Int32.not_lt.mpr c3))⟩
      · refine V_iconst (v := 4) C d_S_defect_21 (by decide) ?_
        refine V_goto C 44 d_S_defect_22 (by decide) ?_
        exact V_iret C hr rfl d_S_defect_44 ⟨rfl, by first | (simp_all [Int32.not_lt, Int32.not_le]; done) | (simp_all [Int32.not_lt, Int32.not_le]; intro q; exact absurd q (Int32.not_lt.mpr c3))⟩
set_option maxHeartbeats 4000000 in
theorem c_G_find {l : Launch} {g : Gh} (E : gOk g ∧ l.stackTraces = false) (h : Pic) (n : Nat) (hn : n ≤ 60) (hc : h 0 1 = nI n) (i : Int32) : Ct l g y_G_find k_G_find (RM 9 1 6) [.ref (gA g 0), .int i] h (fun r h1 => h1 = h ∧ ∃ u, u < n ∧ i = nI u ∧ r = some (.ref (gA g (17 + u)))) (fun X h1 => h1 = h ∧ X = "java/lang/IndexOutOfBoundsException" ∧ ∀ u, u < n → i ≠ nI u) := by
  refine Ct_of E.1 E.2 (by decide) (Nat.le_of_ble_eq_true rfl) (fun M C hr hx => ?_)
  have C : Cx _ M g "GameGraph" b_G_find 2 := C
  refine V_lv [(0, .ref (gA g 0)), (1, .int i)] rfl ?_
  refine V_iload_n C d_G_find_0 rfl ?_
  refine V_iconst (v := 0) C d_G_find_1 (by decide) ?_
  refine V_aload_n C d_G_find_2 rfl ?_
  refine V_getG C 1 (by decide) wf_G_15 rfl rfl d_G_find_3 ?_
  refine V_iconst (v := 1) C d_G_find_6 (by decide) ?_
  refine V_isub C d_G_find_7 ?_
  refine V_callS C (As := [.int i, .int 0, .int ((h 0 1) - 1)]) (st := []) (c_G_is E h i 0 (h 0 1 - 1)) wc_G_is (fun _ _ => codeIs) wz_G wl_G_38 wt_G_is ⟨by decide, by decide⟩ rfl ⟨by decide, by decide⟩ ⟨by decide, by decide⟩ (by decide) d_G_find_8 (fun r h1 hp => ?_) (fun X h1 hp => hp.elim)
  obtain ⟨rfl, rfl⟩ := hp
  refine V_callS C (As := [.int (if 0 ≤ i ∧ i ≤ h1 0 1 - 1 then 1 else 0)]) (st := []) (c_G_there E h1 _) wc_G_there (fun _ _ => codeIs) wz_G wl_G_42 wt_G_there ⟨by decide, by decide⟩ rfl ⟨by decide, by decide⟩ ⟨by decide, by decide⟩ (by decide) d_G_find_11 (fun r h2 hp => ?_) (fun X h2 hp => ?_)
  · obtain ⟨rfl, rfl, hne⟩ := hp
    have hin : 0 ≤ i ∧ i ≤ h2 0 1 - 1 := by
      by_cases q : 0 ≤ i ∧ i ≤ h2 0 1 - 1
      · exact q
      · exact absurd (if_neg q) hne
    obtain ⟨u, hu, rfl⟩ := ix_of hn hc hin
    refine V_aload_n C d_G_find_14 rfl ?_
    refine V_getG C 0 (by decide) wf_G_11 rfl rfl d_G_find_15 ?_
    refine V_iload_n C d_G_find_18 rfl ?_
    refine V_aald C u rfl (by omega) d_G_find_19 ?_
    exact V_aret C hr d_G_find_20 ⟨rfl, u, hu, rfl, rfl⟩
  · obtain ⟨rfl, rfl, he⟩ := hp
    exact VX_leave C hx ⟨rfl, rfl, fun u hu e => ix_no hn hc hu e he⟩
end
section
-- ===== printed by gen/w2.py: what changes the graph =====
theorem nle_lt {m j : Nat} (hm : m < 2 ^ 31) (hj : j < 2 ^ 31) (c : ¬ nI m ≤ nI j) : j < m := by
  rcases Nat.lt_or_ge j m with q | q
  · exact q
  · exact absurd (nI_le q hj) c
theorem le_ge {m j : Nat} (hm : m < 2 ^ 31) (hj : j < 2 ^ 31) (c : nI m ≤ nI j) : m ≤ j := (nI_leI hm hj).mp c
/-- a state's fields behind end(a, b) -/
def stE (h : Pic) (K i : Nat) (a b : Int32) : Int32 := if i = 0 then 1 else if i = 1 then a else if i = 2 then b else if i = 3 then 0 else h K i
theorem endP_at {h : Pic} {k K i : Nat} {a b : Int32} : pu (pu (pu (pu h k 0 1) k 1 a) k 2 b) k 3 0 K i = if K = k then stE h K i a b else h K i := by
  unfold pu stE
  by_cases e : K = k
  · subst e
    by_cases h0 : i = 0
    · subst h0; simp
    by_cases h1 : i = 1
    · subst h1; simp
    by_cases h2 : i = 2
    · subst h2; simp
    by_cases h3 : i = 3
    · subst h3; simp
    simp [h0, h1, h2, h3]
  · simp [e]
set_option maxHeartbeats 4000000 in
theorem lp_S_open {l : Launch} {R : Room} {args : Array Value} {M : MT} {g : Gh} {Q : State → Prop} {cells slots : Nat} (C : Cx args M g "GameGraph$State" b_S_open 4) {u m : Nat} (hu : u < 60) (hm : m ≤ 12) {a b : Int32} :
    ∀ (n j : Nat) (h : Pic), j ≤ m → m + 1 ≤ j + n → h (17 + u) 3 = nI m → (∀ h' : Pic, (∀ k i, h' k i = if k = 77 + u ∧ j ≤ i ∧ i < m then 0 else h k i) → V l R args M g 4 Q cells slots h' 45 [(0, .ref (gA g (17 + u))), (1, .int a), (2, .int b), (3, .int (nI m))] []) → V l R args M g 4 Q cells slots h 24 [(0, .ref (gA g (17 + u))), (1, .int a), (2, .int b), (3, .int (nI j))] [] := by
  intro n
  induction n with
  | zero => intro j h h1 h2; omega
  | succ n ih =>
    intro j h b1 b2 hj k
    refine V_iload_n C d_S_open_24 rfl ?_
    refine V_aload_n C d_S_open_25 rfl ?_
    refine V_getS C u hu 3 (by decide) wf_S_26 rfl rfl d_S_open_26 ?_
    refine V_topi (nI m) (hj) ?_
    refine V_icmp_ge C 45 d_S_open_29 (by decide) (fun c1 => ?_) (fun c1 => ?_)
    · have e := le_ge (by omega) (by omega) c1
      have e : j = m := by omega
      subst e
      exact k h (fun k i => by rw [if_neg (by omega)])
    · have hl := nle_lt (by omega) (by omega) c1
      refine V_aload_n C d_S_open_32 rfl ?_
      refine V_getS C u hu 4 (by decide) wf_S_9 rfl rfl d_S_open_33 ?_
      refine V_iload_n C d_S_open_36 rfl ?_
      refine V_iconst (v := 0) C d_S_open_37 (by decide) ?_
      refine V_iast C (77 + u) 12 j (by omega) (fun _ => cel_nx) rfl (by omega) (by decide) d_S_open_38 (fun h1 eh1 => ?_)
      refine V_iinc C [(0, .ref (gA g (17 + u))), (1, .int a), (2, .int b), (3, .int (nI (j + 1)))] d_S_open_39 rfl (nI_1 _) (by decide) rfl rfl ?_
      refine V_goto C 24 d_S_open_42 (by decide) ?_
      refine ih (j + 1) h1 (by omega) (by omega) (by rw [eh1, pu_k (by omega)]; exact hj) (fun h' hs => k h' (fun K i => ?_))
      rw [hs K i, eh1]
      unfold pu
      by_cases e1 : K = 77 + u
      · by_cases e2 : i = j
        · rw [if_neg (by omega), if_pos ⟨e1, e2⟩, if_pos (by omega)]
        · by_cases e3 : K = 77 + u ∧ j ≤ i ∧ i < m
          · rw [if_pos (by omega), if_pos e3]
          · rw [if_neg (by omega), if_neg (by omega), if_neg e3]
      · rw [if_neg (by omega), if_neg (by omega), if_neg (by omega)]
set_option maxHeartbeats 4000000 in
theorem c_S_open {l : Launch} {g : Gh} (E : gOk g ∧ l.stackTraces = false) (h : Pic) (u : Nat) (hu : u < 60) (a b : Int32) (m : Nat) (hm : m ≤ 12) (hab : a * b = nI m) : Ct l g y_S_open k_S_open (RM 1 0 0) [.ref (gA g (17 + u)), .int a, .int b] h (fun r h' => r = none ∧ ∀ k i, h' k i = if k = 17 + u then (if i = 0 then 0 else if i = 1 then a else if i = 2 then b else if i = 3 then nI m else h k i) else if k = 77 + u ∧ i < m then 0 else h k i) (fun _ _ => False) := by
  refine Ct_of E.1 E.2 (by decide) (Nat.le_of_ble_eq_true rfl) (fun M C hr hx => ?_)
  have C : Cx _ M g "GameGraph$State" b_S_open 4 := C
  refine V_lv [(0, .ref (gA g (17 + u))), (1, .int a), (2, .int b)] rfl ?_
  refine V_aload_n C d_S_open_0 rfl ?_
  refine V_iconst (v := 0) C d_S_open_1 (by decide) ?_
  refine V_putS C u hu 0 (by decide) wf_S_15 rfl rfl rfl rfl d_S_open_2 (fun h1 eh1 => ?_)
  refine V_aload_n C d_S_open_5 rfl ?_
  refine V_iload_n C d_S_open_6 rfl ?_
  refine V_putS C u hu 1 (by decide) wf_S_19 rfl rfl rfl rfl d_S_open_7 (fun h2 eh2 => ?_)
  refine V_aload_n C d_S_open_10 rfl ?_
  refine V_iload_n C d_S_open_11 rfl ?_
  refine V_putS C u hu 2 (by decide) wf_S_23 rfl rfl rfl rfl d_S_open_12 (fun h3 eh3 => ?_)
  refine V_aload_n C d_S_open_15 rfl ?_
  refine V_iload_n C d_S_open_16 rfl ?_
  refine V_iload_n C d_S_open_17 rfl ?_
  refine V_imul C d_S_open_18 ?_
  refine V_topi (nI m) (hab) ?_
  refine V_putS C u hu 3 (by decide) wf_S_26 rfl rfl rfl rfl d_S_open_19 (fun h4 eh4 => ?_)
  refine V_iconst (v := 0) C d_S_open_22 (by decide) ?_
  refine V_istore_n C [(0, .ref (gA g (17 + u))), (1, .int a), (2, .int b), (3, .int 0)] d_S_open_23 (by decide) rfl rfl ?_
  refine V_lv [(0, .ref (gA g (17 + u))), (1, .int a), (2, .int b), (3, .int (nI 0))] rfl ?_
  refine lp_S_open C hu hm (m + 1) 0 h4 (by omega) (by omega) (by rw [eh4]; exact pu_self) (fun h' hs => ?_)
  refine V_vret C hr d_S_open_45 ⟨rfl, fun k i => ?_⟩
  rw [hs k i, eh4, eh3, eh2, eh1]
  unfold pu
  by_cases e1 : k = 17 + u
  · rw [if_neg (by omega), if_pos e1]
    by_cases i0 : i = 0
    · subst i0; simp [e1]
    by_cases i1 : i = 1
    · subst i1; simp [e1]
    by_cases i2 : i = 2
    · subst i2; simp [e1]
    by_cases i3 : i = 3
    · subst i3; simp [e1]
    simp [i0, i1, i2, i3]
  · rw [if_neg e1]
    by_cases e2 : k = 77 + u ∧ i < m
    · rw [if_pos (by omega), if_pos e2]
    · rw [if_neg (by omega), if_neg e2]; simp [e1]
set_option maxHeartbeats 4000000 in
theorem lp_G_states {l : Launch} {R : Room} {args : Array Value} {M : MT} {g : Gh} {Q : State → Prop} {cells slots : Nat} (C : Cx args M g "GameGraph" b_G_states 3) {m : Nat} (E : gOk g ∧ l.stackTraces = false) (hm : m ≤ 60) (hRf : 2 ≤ R.frames ∧ 8 + (3 + 11) + 40 ≤ R.locals) (hRc : cells ≤ R.cells ∧ slots ≤ R.slots) :
    ∀ (n j : Nat) (h : Pic), j ≤ m → m + 1 ≤ j + n → True → (∀ h' : Pic, (∀ k i, h' k i = if 17 + j ≤ k ∧ k < 17 + m then stE h k i 50 50 else h k i) → V l R args M g 3 Q cells slots h' 41 [(0, .ref (gA g 0)), (1, .int (nI m)), (2, .int (nI m))] []) → V l R args M g 3 Q cells slots h 17 [(0, .ref (gA g 0)), (1, .int (nI m)), (2, .int (nI j))] [] := by
  intro n
  induction n with
  | zero => intro j h b1 b2; omega
  | succ n ih =>
    intro j h b1 b2 _ k
    refine V_iload_n C d_G_states_17 rfl ?_
    refine V_iload_n C d_G_states_18 rfl ?_
    refine V_icmp_ge C 41 d_G_states_19 (by decide) (fun c1 => ?_) (fun c1 => ?_)
    · have e := le_ge (by omega) (by omega) c1
      have e : j = m := by omega
      subst e
      exact k h (fun k i => by rw [if_neg (by omega)])
    · have hl := nle_lt (by omega) (by omega) c1
      refine V_aload_n C d_G_states_22 rfl ?_
      refine V_getG C 0 (by decide) wf_G_11 rfl rfl d_G_states_23 ?_
      refine V_iload_n C d_G_states_26 rfl ?_
      refine V_aald C j rfl (by omega) d_G_states_27 ?_
      refine V_bipush (v := 50) C d_G_states_28 (by decide) ?_
      refine V_bipush (v := 50) C d_G_states_30 (by decide) ?_
      refine V_callV C "GameGraph$State" (As := [.int 50, .int 50]) (st := []) (c_S_end E h j (by omega) 50 50) wc_S_end (fun _ _ => codeIs) wz_S wl_G_28 wi_S_end ws_S_end ⟨by decide, by decide⟩ rfl (recvS (by omega)) hRf hRc (by decide) d_G_states_32 (fun r h1 hp => ?_) (fun X h1 hp => hp.elim)
      obtain ⟨rfl, eh1⟩ := hp
      refine V_iinc C [(0, .ref (gA g 0)), (1, .int (nI m)), (2, .int (nI (j + 1)))] d_G_states_35 rfl (nI_1 _) (by decide) rfl rfl ?_
      refine V_goto C 17 d_G_states_38 (by decide) ?_
      refine ih (j + 1) h1 (by omega) (by omega) trivial (fun h' hs => k h' (fun K i => ?_))
      have e0 := hs K i
      have e1 : h1 K i = if K = 17 + j then stE h K i 50 50 else h K i := by rw [eh1]; exact endP_at
      by_cases q : K = 17 + j
      · rw [e0, if_neg (by omega), e1, if_pos q, if_pos (by omega)]
      · rw [if_neg q] at e1
        by_cases q2 : 17 + j ≤ K ∧ K < 17 + m
        · rw [e0, if_pos (by omega), if_pos q2]; simp only [stE, e1]
        · rw [e0, if_neg (by omega), if_neg q2, e1]
theorem in_1_60 {x : Int32} (h : 1 ≤ x ∧ x ≤ 60) : ∃ n, 1 ≤ n ∧ n ≤ 60 ∧ x = nI n := by
  rw [i32_le, i32_le, show (1 : Int32).toInt = 1 from rfl, show (60 : Int32).toInt = 60 from rfl] at h
  refine ⟨x.toInt.toNat, by omega, by omega, ?_⟩
  rw [i32_eq, nI_toInt (by omega)]
  omega
theorem if10 {c : Prop} [Decidable c] (h : (if c then (1 : Int32) else 0) ≠ 0) : c := by
  by_cases q : c
  · exact q
  · exact absurd (if_neg q) h
theorem if10n {c : Prop} [Decidable c] (h : (if c then (1 : Int32) else 0) = 0) : ¬ c := by
  intro q
  rw [if_pos q] at h
  exact absurd h (by decide)
theorem rep_states {G : Gr} {h h1 h2 h3 : Pic} {m : Nat} (e1 : h1 = pu h 0 1 (nI m)) (e2 : ∀ k i, h2 k i = if 17 + 0 ≤ k ∧ k < 17 + m then stE h1 k i 50 50 else h1 k i) (e3 : h3 = pu h2 0 2 0) (hm : m ≤ 60) : RepC (gStates G m) h3 ∧ h3 0 2 = 0 ∧ SameM h h3 := by
  have a3 : ∀ k i, k ≠ 0 → h3 k i = h2 k i := fun k i q => by rw [e3, pu_k q]
  refine ⟨⟨?_, fun u hu => ?_⟩, by rw [e3, pu_self], fun k hk1 hk2 => funext fun i => ?_⟩
  · rw [e3, pu_i (by decide), e2, if_neg (by omega), e1, pu_self]; rfl
  · have hu : u < m := hu
    have b : ∀ i, h3 (17 + u) i = stE h1 (17 + u) i 50 50 := fun i => by rw [a3 _ _ (by omega), e2, if_pos (by omega)]
    refine ⟨by rw [b]; rfl, by rw [b]; rfl, by rw [b]; rfl, by rw [b, jt_states]; rfl, fun j hj => ?_⟩
    rw [jt_states] at hj; omega
  · rw [a3 _ _ (by omega), e2, if_neg (by omega), e1, pu_k (by omega)]
set_option maxHeartbeats 4000000 in
theorem c_G_states {l : Launch} {g : Gh} (E : gOk g ∧ l.stackTraces = false) (G : Gr) (h : Pic) (hG : Good G) (hC : RepC G h) (x : Int32) : Ct l g y_G_states k_G_states (RM 10 1 6) [.ref (gA g 0), .int x] h (fun r h' => r = none ∧ ∃ m, 1 ≤ m ∧ m ≤ 60 ∧ x = nI m ∧ RepC (gStates G m) h' ∧ h' 0 2 = 0 ∧ SameM h h') (fun X h' => h' = h ∧ X = "java/lang/IllegalArgumentException" ∧ ¬ (1 ≤ x ∧ x ≤ 60)) := by
  refine Ct_of E.1 E.2 (by decide) (Nat.le_of_ble_eq_true rfl) (fun M C hr hx => ?_)
  have C : Cx _ M g "GameGraph" b_G_states 3 := C
  refine V_lv [(0, .ref (gA g 0)), (1, .int x)] rfl ?_
  refine V_iload_n C d_G_states_0 rfl ?_
  refine V_iconst (v := 1) C d_G_states_1 (by decide) ?_
  refine V_bipush (v := 60) C d_G_states_2 (by decide) ?_
  refine V_callS C (As := [.int x, .int 1, .int 60]) (st := []) (c_G_is E h x 1 60) wc_G_is (fun _ _ => codeIs) wz_G wl_G_38 wt_G_is ⟨by decide, by decide⟩ rfl ⟨by decide, by decide⟩ ⟨by decide, by decide⟩ (by decide) d_G_states_4 (fun r h1 hp => ?_) (fun X h1 hp => hp.elim)
  obtain ⟨rfl, rfl⟩ := hp
  refine V_callS C (As := [.int (if 1 ≤ x ∧ x ≤ 60 then 1 else 0)]) (st := []) (c_G_need E h1 _) wc_G_need (fun _ _ => codeIs) wz_G wl_G_46 wt_G_need ⟨by decide, by decide⟩ rfl ⟨by decide, by decide⟩ ⟨by decide, by decide⟩ (by decide) d_G_states_7 (fun r h2 hp => ?_) (fun X h2 hp => ?_)
  · obtain ⟨rfl, rfl, hne⟩ := hp
    obtain ⟨m, m1, m2, rfl⟩ := in_1_60 (if10 hne)
    refine V_lv [(0, .ref (gA g 0)), (1, .int (nI m))] rfl ?_
    refine V_aload_n C d_G_states_10 rfl ?_
    refine V_iload_n C d_G_states_11 rfl ?_
    refine V_putG C 1 (by decide) wf_G_15 rfl rfl rfl rfl d_G_states_12 (fun h3 eh3 => ?_)
    refine V_iconst (v := 0) C d_G_states_15 (by decide) ?_
    refine V_istore_n C [(0, .ref (gA g 0)), (1, .int (nI m)), (2, .int 0)] d_G_states_16 (by decide) rfl rfl ?_
    refine V_lv [(0, .ref (gA g 0)), (1, .int (nI m)), (2, .int (nI 0))] rfl ?_
    refine lp_G_states C E m2 ⟨by decide, by decide⟩ ⟨by decide, by decide⟩ (m + 1) 0 h3 (by omega) (by omega) trivial (fun h4 hs => ?_)
    refine V_aload_n C d_G_states_41 rfl ?_
    refine V_iconst (v := 0) C d_G_states_42 (by decide) ?_
    refine V_putG C 2 (by decide) wf_G_49 rfl rfl rfl rfl d_G_states_43 (fun h5 eh5 => ?_)
    exact V_vret C hr d_G_states_46 ⟨rfl, m, m1, m2, rfl, rep_states eh3 hs eh5 m2⟩
  · obtain ⟨rfl, rfl, he⟩ := hp
    exact VX_leave C hx ⟨rfl, rfl, if10n he⟩
end
section
-- ===== printed by gen/w2b.py: end, open, link, next =====
theorem rep_end {G : Gr} {h h1 h2 : Pic} {u : Nat} {a b : Int32} (hC : RepC G h) (hn : Gn G ≤ 60) (hu : u < Gn G) (e1 : h1 = pu (pu (pu (pu h (17 + u) 0 1) (17 + u) 1 a) (17 + u) 2 b) (17 + u) 3 0) (e2 : h2 = pu h1 0 2 0) : RepC (gEnd G u a b) h2 ∧ h2 0 2 = 0 ∧ SameM h h2 := by
  have a1 : ∀ K i, h1 K i = if K = 17 + u then stE h K i a b else h K i := fun K i => by rw [e1]; exact endP_at
  have a2 : ∀ K i, K ≠ 0 → h2 K i = h1 K i := fun K i q => by rw [e2, pu_k q]
  obtain ⟨c1, c2⟩ := hC
  refine ⟨⟨?_, fun v hv => ?_⟩, by rw [e2, pu_self], fun k hk1 hk2 => funext fun i => ?_⟩
  · rw [e2, pu_i (by decide), a1, if_neg (by omega)]; exact c1
  · have hv : v < Gn G := hv
    by_cases e : v = u
    · subst e
      have b : ∀ i, h2 (17 + v) i = stE h (17 + v) i a b := fun i => by rw [a2 _ _ (by omega), a1, if_pos rfl]
      refine ⟨by rw [b]; simp [gEnd, Gop, upB, stE], by rw [b]; simp [gEnd, Ga, upd, stE], by rw [b]; simp [gEnd, Gb, upd, stE], by rw [b, jt_end_self]; rfl, fun j hj => ?_⟩
      rw [jt_end_self] at hj; omega
    · have b : ∀ i, h2 (17 + v) i = h (17 + v) i := fun i => by rw [a2 _ _ (by omega), a1, if_neg (by omega)]
      have b' : ∀ i, h2 (77 + v) i = h (77 + v) i := fun i => by rw [a2 _ _ (by omega), a1, if_neg (by omega)]
      obtain ⟨d1, d2, d3, d4, d5⟩ := c2 v hv
      refine ⟨by rw [b, d1]; simp [gEnd, Gop, upB, e], by rw [b, d2]; simp [gEnd, Ga, upd, e], by rw [b, d3]; simp [gEnd, Gb, upd, e], by rw [b, d4, jt_end_ne e], fun j hj => ?_⟩
      rw [jt_end_ne e] at hj
      rw [b', d5 j hj]; rfl
  · rw [a2 _ _ (by omega), a1, if_neg (by omega)]
theorem rep_open {G : Gr} {h h1 h2 : Pic} {u m : Nat} {a b : Int32} (hC : RepC G h) (hn : Gn G ≤ 60) (hm : a * b = nI m) (hm12 : m ≤ 12) (e1 : ∀ k i, h1 k i = if k = 17 + u then (if i = 0 then 0 else if i = 1 then a else if i = 2 then b else if i = 3 then nI m else h k i) else if k = 77 + u ∧ i < m then 0 else h k i) (hu : u < Gn G) (e2 : h2 = pu h1 0 2 0) : RepC (gOpen G u a b) h2 ∧ h2 0 2 = 0 ∧ SameM h h2 := by
  have a2 : ∀ K i, K ≠ 0 → h2 K i = h1 K i := fun K i q => by rw [e2, pu_k q]
  have hjm : (a * b).toNatClampNeg = m := by rw [hm, nI_clamp (by omega)]
  obtain ⟨c1, c2⟩ := hC
  refine ⟨⟨?_, fun v hv => ?_⟩, by rw [e2, pu_self], fun k hk1 hk2 => funext fun i => ?_⟩
  · rw [e2, pu_i (by decide), e1, if_neg (by omega), if_neg (by omega)]; exact c1
  · have hv : v < Gn G := hv
    by_cases e : v = u
    · subst e
      have b1 : ∀ i, h2 (17 + v) i = if i = 0 then 0 else if i = 1 then a else if i = 2 then b else if i = 3 then nI m else h (17 + v) i := fun i => by rw [a2 _ _ (by omega), e1, if_pos rfl]
      refine ⟨by rw [b1]; simp [gOpen, Gop, upB], by rw [b1]; simp [gOpen, Ga, upd], by rw [b1]; simp [gOpen, Gb, upd], by rw [b1, jt_open_self, hjm]; simp, fun j hj => ?_⟩
      rw [jt_open_self, hjm] at hj
      rw [a2 _ _ (by omega), e1, if_neg (by omega), if_pos ⟨rfl, hj⟩]
      simp [gOpen, Gx, nI_0]
    · have b1 : ∀ i, h2 (17 + v) i = h (17 + v) i := fun i => by rw [a2 _ _ (by omega), e1, if_neg (by omega), if_neg (by omega)]
      have b2 : ∀ i, h2 (77 + v) i = h (77 + v) i := fun i => by rw [a2 _ _ (by omega), e1, if_neg (by omega), if_neg (by omega)]
      obtain ⟨d1, d2, d3, d4, d5⟩ := c2 v hv
      refine ⟨by rw [b1, d1]; simp [gOpen, Gop, upB, e], by rw [b1, d2]; simp [gOpen, Ga, upd, e], by rw [b1, d3]; simp [gOpen, Gb, upd, e], by rw [b1, d4, jt_open_ne e], fun j hj => ?_⟩
      rw [jt_open_ne e] at hj
      rw [b2, d5 j hj]
      simp [gOpen, Gx, e]
  · rw [a2 _ _ (by omega), e1, if_neg (by omega), if_neg (by omega)]
theorem rep_link {G : Gr} {h h1 h2 : Pic} {u j t : Nat} (hC : RepC G h) (hn : Gn G ≤ 60) (e1 : h1 = pu h (77 + u) j (nI t)) (hu : u < Gn G) (e2 : h2 = pu h1 0 2 0) : RepC (gLink G u j t) h2 ∧ h2 0 2 = 0 ∧ SameM h h2 := by
  have a2 : ∀ K i, K ≠ 0 → h2 K i = h1 K i := fun K i q => by rw [e2, pu_k q]
  obtain ⟨c1, c2⟩ := hC
  refine ⟨⟨?_, fun v hv => ?_⟩, by rw [e2, pu_self], fun k hk1 hk2 => funext fun i => ?_⟩
  · rw [e2, pu_i (by decide), e1, pu_k (by omega)]; exact c1
  · have hv : v < Gn G := hv
    have b1 : ∀ i, h2 (17 + v) i = h (17 + v) i := fun i => by rw [a2 _ _ (by omega), e1, pu_k (by omega)]
    obtain ⟨d1, d2, d3, d4, d5⟩ := c2 v hv
    refine ⟨by rw [b1, d1]; rfl, by rw [b1, d2]; rfl, by rw [b1, d3]; rfl, by rw [b1, d4]; rfl, fun i hi => ?_⟩
    rw [a2 _ _ (by omega), e1]
    unfold pu
    by_cases e : v = u ∧ i = j
    · rw [if_pos (by omega)]; simp [gLink, Gx, e]
    · rw [if_neg (by omega), d5 i hi]; simp [gLink, Gx, e]
  · rw [a2 _ _ (by omega), e1, pu_k (by omega)]
theorem in_0_12 {x : Int32} (h : 0 ≤ x ∧ x ≤ 12) : ∃ n, n ≤ 12 ∧ x = nI n := by
  rw [i32_le, i32_le, show (0 : Int32).toInt = 0 from rfl, show (12 : Int32).toInt = 12 from rfl] at h
  refine ⟨x.toInt.toNat, by omega, ?_⟩
  rw [i32_eq, nI_toInt (by omega)]
  omega
theorem nI_le12 {n : Nat} (h : n ≤ 12) : 0 ≤ nI n ∧ nI n ≤ 12 := by
  rw [i32_le, i32_le, show (0 : Int32).toInt = 0 from rfl, show (12 : Int32).toInt = 12 from rfl, nI_toInt (by omega)]
  omega
theorem okOpen_iff {a b : Int32} : okOpen a b ↔ (0 ≤ a ∧ a ≤ 12) ∧ (0 ≤ b ∧ b ≤ 12) ∧ a * b ≤ 12 := by
  constructor
  · rintro ⟨p, q, rfl, rfl, hp, hq, hm⟩
    refine ⟨nI_le12 hp, nI_le12 hq, ?_⟩
    rw [pk_mul]
    exact (nI_le12 hm).2
  · rintro ⟨h1, h2, h3⟩
    obtain ⟨p, hp, rfl⟩ := in_0_12 h1
    obtain ⟨q, hq, rfl⟩ := in_0_12 h2
    refine ⟨p, q, rfl, rfl, hp, hq, ?_⟩
    rw [pk_mul, i32_le, show (12 : Int32).toInt = 12 from rfl, nI_toInt (by have := Nat.mul_le_mul hp hq; omega)] at h3
    omega
set_option maxHeartbeats 4000000 in
theorem c_G_end {l : Launch} {g : Gh} (E : gOk g ∧ l.stackTraces = false) (G : Gr) (h : Pic) (hG : Good G) (hC : RepC G h) (x a b : Int32) : Ct l g y_G_end k_G_end (RM 10 2 12) [.ref (gA g 0), .int x, .int a, .int b] h (fun r h' => r = none ∧ ∃ u, u < Gn G ∧ x = nI u ∧ okEnd a b ∧ RepC (gEnd G u a b) h' ∧ h' 0 2 = 0 ∧ SameM h h') (fun X h' => h' = h ∧ ((X = "java/lang/IndexOutOfBoundsException" ∧ ∀ u, u < Gn G → x ≠ nI u) ∨ (X = "java/lang/IllegalArgumentException" ∧ (∃ u, u < Gn G ∧ x = nI u) ∧ ¬ okEnd a b))) := by
  refine Ct_of E.1 E.2 (by decide) (Nat.le_of_ble_eq_true rfl) (fun M C hr hx => ?_)
  have C : Cx _ M g "GameGraph" b_G_end 5 := C
  refine V_lv [(0, .ref (gA g 0)), (1, .int x), (2, .int a), (3, .int b)] rfl ?_
  refine V_aload_n C d_G_end_0 rfl ?_
  refine V_iload_n C d_G_end_1 rfl ?_
  refine V_callV C "GameGraph" (As := [.int x]) (st := []) (c_G_find E h (Gn G) hG.2.1 hC.1 x) wc_G_find (fun _ _ => codeIs) wz_G wl_G_53 wi_G_find ws_G_find ⟨by decide, by decide⟩ rfl recvG ⟨by decide, by decide⟩ ⟨by decide, by decide⟩ (by decide) d_G_end_2 (fun r h1 hp => ?_) (fun X h1 hp => ?_)
  · obtain ⟨rfl, u, hu, rfl, rfl⟩ := hp
    refine V_lv [(0, .ref (gA g 0)), (1, .int (nI u)), (2, .int a), (3, .int b)] rfl ?_
    have hG60 : Gn G ≤ 60 := hG.2.1
    refine V_astore C [(0, .ref (gA g 0)), (1, .int (nI u)), (2, .int a), (3, .int b), (4, .ref (gA g (17 + u)))] d_G_end_5 (by decide) rfl rfl ?_
    refine V_iload_n C d_G_end_7 rfl ?_
    refine V_bipush (v := (-2)) C d_G_end_8 (by decide) ?_
    refine V_bipush (v := 100) C d_G_end_10 (by decide) ?_
    refine V_callS C (As := [.int a, .int ((-2)), .int 100]) (st := []) (c_G_is E h1 a (-2) 100) wc_G_is (fun _ _ => codeIs) wz_G wl_G_38 wt_G_is ⟨by decide, by decide⟩ rfl ⟨by decide, by decide⟩ ⟨by decide, by decide⟩ (by decide) d_G_end_12 (fun r h2 hp => ?_) (fun X h1 hp => hp.elim)
    obtain ⟨rfl, rfl⟩ := hp
    refine V_if_eq C 33 d_G_end_15 (by decide) (fun c1 => ?_) (fun c1 => ?_)
    · refine V_iconst (v := 0) C d_G_end_33 (by decide) ?_
      refine V_callS C (As := [.int 0]) (st := []) (c_G_need E h2 0) wc_G_need (fun _ _ => codeIs) wz_G wl_G_46 wt_G_need ⟨by decide, by decide⟩ rfl ⟨by decide, by decide⟩ ⟨by decide, by decide⟩ (by decide) d_G_end_34 (fun r h4 hp => absurd rfl hp.2.2) (fun X h4 hp => ?_)
      obtain ⟨rfl, rfl, -⟩ := hp
      exact VX_leave C hx ⟨rfl, Or.inr ⟨rfl, ⟨u, hu, rfl⟩, fun q => if10n c1 ⟨q.1, q.2.1⟩⟩⟩
    · refine V_iload_n C d_G_end_18 rfl ?_
      refine V_bipush (v := (-2)) C d_G_end_19 (by decide) ?_
      refine V_bipush (v := 100) C d_G_end_21 (by decide) ?_
      refine V_callS C (As := [.int b, .int ((-2)), .int 100]) (st := []) (c_G_is E h2 b (-2) 100) wc_G_is (fun _ _ => codeIs) wz_G wl_G_38 wt_G_is ⟨by decide, by decide⟩ rfl ⟨by decide, by decide⟩ ⟨by decide, by decide⟩ (by decide) d_G_end_23 (fun r h3 hp => ?_) (fun X h1 hp => hp.elim)
      obtain ⟨rfl, rfl⟩ := hp
      refine V_if_eq C 33 d_G_end_26 (by decide) (fun c2 => ?_) (fun c2 => ?_)
      · refine V_iconst (v := 0) C d_G_end_33 (by decide) ?_
        refine V_callS C (As := [.int 0]) (st := []) (c_G_need E h3 0) wc_G_need (fun _ _ => codeIs) wz_G wl_G_46 wt_G_need ⟨by decide, by decide⟩ rfl ⟨by decide, by decide⟩ ⟨by decide, by decide⟩ (by decide) d_G_end_34 (fun r h4 hp => absurd rfl hp.2.2) (fun X h4 hp => ?_)
        obtain ⟨rfl, rfl, -⟩ := hp
        exact VX_leave C hx ⟨rfl, Or.inr ⟨rfl, ⟨u, hu, rfl⟩, fun q => if10n c2 ⟨q.2.2.1, q.2.2.2⟩⟩⟩
      · refine V_iconst (v := 1) C d_G_end_29 (by decide) ?_
        refine V_goto C 34 d_G_end_30 (by decide) ?_
        refine V_callS C (As := [.int 1]) (st := []) (c_G_need E h3 1) wc_G_need (fun _ _ => codeIs) wz_G wl_G_46 wt_G_need ⟨by decide, by decide⟩ rfl ⟨by decide, by decide⟩ ⟨by decide, by decide⟩ (by decide) d_G_end_34 (fun r h4 hp => ?_) (fun X h4 hp => absurd hp.2.2 (by decide))
        obtain ⟨rfl, rfl, -⟩ := hp
        refine V_aload C d_G_end_37 rfl ?_
        refine V_iload_n C d_G_end_39 rfl ?_
        refine V_iload_n C d_G_end_40 rfl ?_
        refine V_callV C "GameGraph$State" (As := [.int a, .int b]) (st := []) (c_S_end E h4 u (Nat.lt_of_lt_of_le hu hG.2.1) a b) wc_S_end (fun _ _ => codeIs) wz_S wl_G_28 wi_S_end ws_S_end ⟨by decide, by decide⟩ rfl (recvS (Nat.lt_of_lt_of_le hu hG.2.1)) ⟨by decide, by decide⟩ ⟨by decide, by decide⟩ (by decide) d_G_end_41 (fun r h5 hp => ?_) (fun X h1 hp => hp.elim)
        obtain ⟨rfl, eh5⟩ := hp
        refine V_aload_n C d_G_end_44 rfl ?_
        refine V_iconst (v := 0) C d_G_end_45 (by decide) ?_
        refine V_putG C 2 (by decide) wf_G_49 rfl rfl rfl rfl d_G_end_46 (fun h6 eh6 => ?_)
        exact V_vret C hr d_G_end_49 ⟨rfl, u, hu, rfl, ⟨(if10 c1).1, (if10 c1).2, (if10 c2).1, (if10 c2).2⟩, rep_end hC hG.2.1 hu eh5 eh6⟩
  · obtain ⟨rfl, rfl, hno⟩ := hp
    exact VX_wide (c' := 2) (s' := 12) (by decide) (by decide) (VX_leave C hx ⟨rfl, Or.inl ⟨rfl, hno⟩⟩)
set_option maxHeartbeats 4000000 in
theorem c_G_open {l : Launch} {g : Gh} (E : gOk g ∧ l.stackTraces = false) (G : Gr) (h : Pic) (hG : Good G) (hC : RepC G h) (x a b : Int32) : Ct l g y_G_open k_G_open (RM 10 2 12) [.ref (gA g 0), .int x, .int a, .int b] h (fun r h' => r = none ∧ ∃ u, u < Gn G ∧ x = nI u ∧ okOpen a b ∧ RepC (gOpen G u a b) h' ∧ h' 0 2 = 0 ∧ SameM h h') (fun X h' => h' = h ∧ ((X = "java/lang/IndexOutOfBoundsException" ∧ ∀ u, u < Gn G → x ≠ nI u) ∨ (X = "java/lang/IllegalArgumentException" ∧ (∃ u, u < Gn G ∧ x = nI u) ∧ ¬ okOpen a b))) := by
  refine Ct_of E.1 E.2 (by decide) (Nat.le_of_ble_eq_true rfl) (fun M C hr hx => ?_)
  have C : Cx _ M g "GameGraph" b_G_open 5 := C
  refine V_lv [(0, .ref (gA g 0)), (1, .int x), (2, .int a), (3, .int b)] rfl ?_
  refine V_aload_n C d_G_open_0 rfl ?_
  refine V_iload_n C d_G_open_1 rfl ?_
  refine V_callV C "GameGraph" (As := [.int x]) (st := []) (c_G_find E h (Gn G) hG.2.1 hC.1 x) wc_G_find (fun _ _ => codeIs) wz_G wl_G_53 wi_G_find ws_G_find ⟨by decide, by decide⟩ rfl recvG ⟨by decide, by decide⟩ ⟨by decide, by decide⟩ (by decide) d_G_open_2 (fun r h1 hp => ?_) (fun X h1 hp => ?_)
  · obtain ⟨rfl, u, hu, rfl, rfl⟩ := hp
    refine V_lv [(0, .ref (gA g 0)), (1, .int (nI u)), (2, .int a), (3, .int b)] rfl ?_
    have hG60 : Gn G ≤ 60 := hG.2.1
    refine V_astore C [(0, .ref (gA g 0)), (1, .int (nI u)), (2, .int a), (3, .int b), (4, .ref (gA g (17 + u)))] d_G_open_5 (by decide) rfl rfl ?_
    refine V_iload_n C d_G_open_7 rfl ?_
    refine V_iconst (v := 0) C d_G_open_8 (by decide) ?_
    refine V_bipush (v := 12) C d_G_open_9 (by decide) ?_
    refine V_callS C (As := [.int a, .int 0, .int 12]) (st := []) (c_G_is E h1 a 0 12) wc_G_is (fun _ _ => codeIs) wz_G wl_G_38 wt_G_is ⟨by decide, by decide⟩ rfl ⟨by decide, by decide⟩ ⟨by decide, by decide⟩ (by decide) d_G_open_11 (fun r h2 hp => ?_) (fun X h1 hp => hp.elim)
    obtain ⟨rfl, rfl⟩ := hp
    refine V_if_eq C 39 d_G_open_14 (by decide) (fun c1 => ?_) (fun c1 => ?_)
    · refine V_iconst (v := 0) C d_G_open_39 (by decide) ?_
      refine V_callS C (As := [.int 0]) (st := []) (c_G_need E h2 0) wc_G_need (fun _ _ => codeIs) wz_G wl_G_46 wt_G_need ⟨by decide, by decide⟩ rfl ⟨by decide, by decide⟩ ⟨by decide, by decide⟩ (by decide) d_G_open_40 (fun r h4 hp => absurd rfl hp.2.2) (fun X h4 hp => ?_)
      obtain ⟨rfl, rfl, -⟩ := hp
      exact VX_leave C hx ⟨rfl, Or.inr ⟨rfl, ⟨u, hu, rfl⟩, fun q => if10n c1 (okOpen_iff.mp q).1⟩⟩
    · refine V_iload_n C d_G_open_17 rfl ?_
      refine V_iconst (v := 0) C d_G_open_18 (by decide) ?_
      refine V_bipush (v := 12) C d_G_open_19 (by decide) ?_
      refine V_callS C (As := [.int b, .int 0, .int 12]) (st := []) (c_G_is E h2 b 0 12) wc_G_is (fun _ _ => codeIs) wz_G wl_G_38 wt_G_is ⟨by decide, by decide⟩ rfl ⟨by decide, by decide⟩ ⟨by decide, by decide⟩ (by decide) d_G_open_21 (fun r h3 hp => ?_) (fun X h1 hp => hp.elim)
      obtain ⟨rfl, rfl⟩ := hp
      refine V_if_eq C 39 d_G_open_24 (by decide) (fun c2 => ?_) (fun c2 => ?_)
      · refine V_iconst (v := 0) C d_G_open_39 (by decide) ?_
        refine V_callS C (As := [.int 0]) (st := []) (c_G_need E h3 0) wc_G_need (fun _ _ => codeIs) wz_G wl_G_46 wt_G_need ⟨by decide, by decide⟩ rfl ⟨by decide, by decide⟩ ⟨by decide, by decide⟩ (by decide) d_G_open_40 (fun r h4 hp => absurd rfl hp.2.2) (fun X h4 hp => ?_)
        obtain ⟨rfl, rfl, -⟩ := hp
        exact VX_leave C hx ⟨rfl, Or.inr ⟨rfl, ⟨u, hu, rfl⟩, fun q => if10n c2 (okOpen_iff.mp q).2.1⟩⟩
      · refine V_iload_n C d_G_open_27 rfl ?_
        refine V_iload_n C d_G_open_28 rfl ?_
        refine V_imul C d_G_open_29 ?_
        refine V_bipush (v := 12) C d_G_open_30 (by decide) ?_
        refine V_icmp_gt C 39 d_G_open_32 (by decide) (fun c3 => ?_) (fun c3 => ?_)
        · refine V_iconst (v := 0) C d_G_open_39 (by decide) ?_
          refine V_callS C (As := [.int 0]) (st := []) (c_G_need E h3 0) wc_G_need (fun _ _ => codeIs) wz_G wl_G_46 wt_G_need ⟨by decide, by decide⟩ rfl ⟨by decide, by decide⟩ ⟨by decide, by decide⟩ (by decide) d_G_open_40 (fun r h4 hp => absurd rfl hp.2.2) (fun X h4 hp => ?_)
          obtain ⟨rfl, rfl, -⟩ := hp
          exact VX_leave C hx ⟨rfl, Or.inr ⟨rfl, ⟨u, hu, rfl⟩, fun q => Int32.not_lt.mpr (okOpen_iff.mp q).2.2 c3⟩⟩
        · have hok : okOpen a b := okOpen_iff.mpr ⟨if10 c1, if10 c2, Int32.not_lt.mp c3⟩
          obtain ⟨hm1, hm2⟩ := okOpen_jt hok
          refine V_iconst (v := 1) C d_G_open_35 (by decide) ?_
          refine V_goto C 40 d_G_open_36 (by decide) ?_
          refine V_callS C (As := [.int 1]) (st := []) (c_G_need E h3 1) wc_G_need (fun _ _ => codeIs) wz_G wl_G_46 wt_G_need ⟨by decide, by decide⟩ rfl ⟨by decide, by decide⟩ ⟨by decide, by decide⟩ (by decide) d_G_open_40 (fun r h4 hp => ?_) (fun X h4 hp => absurd hp.2.2 (by decide))
          obtain ⟨rfl, rfl, -⟩ := hp
          refine V_aload C d_G_open_43 rfl ?_
          refine V_iload_n C d_G_open_45 rfl ?_
          refine V_iload_n C d_G_open_46 rfl ?_
          refine V_callV C "GameGraph$State" (As := [.int a, .int b]) (st := []) (c_S_open E h4 u (Nat.lt_of_lt_of_le hu hG.2.1) a b _ hm2 hm1) wc_S_open (fun _ _ => codeIs) wz_S wl_G_57 wi_S_open ws_S_open ⟨by decide, by decide⟩ rfl (recvS (Nat.lt_of_lt_of_le hu hG.2.1)) ⟨by decide, by decide⟩ ⟨by decide, by decide⟩ (by decide) d_G_open_47 (fun r h5 hp => ?_) (fun X h1 hp => hp.elim)
          obtain ⟨rfl, eh5⟩ := hp
          refine V_aload_n C d_G_open_50 rfl ?_
          refine V_iconst (v := 0) C d_G_open_51 (by decide) ?_
          refine V_putG C 2 (by decide) wf_G_49 rfl rfl rfl rfl d_G_open_52 (fun h6 eh6 => ?_)
          exact V_vret C hr d_G_open_55 ⟨rfl, u, hu, rfl, hok, rep_open hC hG.2.1 hm1 hm2 eh5 hu eh6⟩
  · obtain ⟨rfl, rfl, hno⟩ := hp
    exact VX_wide (c' := 2) (s' := 12) (by decide) (by decide) (VX_leave C hx ⟨rfl, Or.inl ⟨rfl, hno⟩⟩)
set_option maxHeartbeats 4000000 in
theorem c_G_link {l : Launch} {g : Gh} (E : gOk g ∧ l.stackTraces = false) (G : Gr) (h : Pic) (hG : Good G) (hC : RepC G h) (x y z : Int32) : Ct l g y_G_link k_G_link (RM 10 2 12) [.ref (gA g 0), .int x, .int y, .int z] h (fun r h' => r = none ∧ ∃ u j t, u < Gn G ∧ x = nI u ∧ j < jt G u ∧ y = nI j ∧ t < Gn G ∧ z = nI t ∧ RepC (gLink G u j t) h' ∧ h' 0 2 = 0 ∧ SameM h h') (fun X h' => h' = h ∧ X = "java/lang/IndexOutOfBoundsException" ∧ ¬ ∃ u j t, u < Gn G ∧ x = nI u ∧ j < jt G u ∧ y = nI j ∧ t < Gn G ∧ z = nI t) := by
  refine Ct_of E.1 E.2 (by decide) (Nat.le_of_ble_eq_true rfl) (fun M C hr hx => ?_)
  have C : Cx _ M g "GameGraph" b_G_link 5 := C
  refine V_lv [(0, .ref (gA g 0)), (1, .int x), (2, .int y), (3, .int z)] rfl ?_
  refine V_aload_n C d_G_link_0 rfl ?_
  refine V_iload_n C d_G_link_1 rfl ?_
  refine V_callV C "GameGraph" (As := [.int x]) (st := []) (c_G_find E h (Gn G) hG.2.1 hC.1 x) wc_G_find (fun _ _ => codeIs) wz_G wl_G_53 wi_G_find ws_G_find ⟨by decide, by decide⟩ rfl recvG ⟨by decide, by decide⟩ ⟨by decide, by decide⟩ (by decide) d_G_link_2 (fun r h1 hp => ?_) (fun X h1 hp => ?_)
  · obtain ⟨rfl, u, hu, rfl, rfl⟩ := hp
    refine V_lv [(0, .ref (gA g 0)), (1, .int (nI u)), (2, .int y), (3, .int z)] rfl ?_
    have hG60 : Gn G ≤ 60 := hG.2.1
    have hj12 := jt_le hG hu
    obtain ⟨e0, e1, e2, e3, e4⟩ := hC.2 u hu
    refine V_astore C [(0, .ref (gA g 0)), (1, .int (nI u)), (2, .int y), (3, .int z), (4, .ref (gA g (17 + u)))] d_G_link_5 (by decide) rfl rfl ?_
    refine V_iload_n C d_G_link_7 rfl ?_
    refine V_iconst (v := 0) C d_G_link_8 (by decide) ?_
    refine V_aload C d_G_link_9 rfl ?_
    refine V_getN C u (Nat.lt_of_lt_of_le hu hG.2.1) 3 (by decide) wn_G_60 rfl rfl d_G_link_11 ?_
    refine V_iconst (v := 1) C d_G_link_14 (by decide) ?_
    refine V_isub C d_G_link_15 ?_
    refine V_callS C (As := [.int y, .int 0, .int ((h1 (17 + u) 3) - 1)]) (st := []) (c_G_is E h1 y 0 _) wc_G_is (fun _ _ => codeIs) wz_G wl_G_38 wt_G_is ⟨by decide, by decide⟩ rfl ⟨by decide, by decide⟩ ⟨by decide, by decide⟩ (by decide) d_G_link_16 (fun r h2 hp => ?_) (fun X h1 hp => hp.elim)
    obtain ⟨rfl, rfl⟩ := hp
    refine V_if_eq C 40 d_G_link_19 (by decide) (fun c1 => ?_) (fun c1 => ?_)
    · refine V_iconst (v := 0) C d_G_link_40 (by decide) ?_
      refine V_callS C (As := [.int 0]) (st := []) (c_G_there E h2 0) wc_G_there (fun _ _ => codeIs) wz_G wl_G_42 wt_G_there ⟨by decide, by decide⟩ rfl ⟨by decide, by decide⟩ ⟨by decide, by decide⟩ (by decide) d_G_link_41 (fun r h4 hp => absurd rfl hp.2.2) (fun X h4 hp => ?_)
      obtain ⟨rfl, rfl, -⟩ := hp
      exact VX_leave C hx ⟨rfl, rfl, fun ⟨u2, j, t, q1, q2, q3, q4, q5, q6⟩ => by have e := (nI_eq (by omega) (by omega)).mp q2; subst e; exact ix_no (by omega) e3 q3 q4 c1⟩
    · obtain ⟨j, hj, rfl⟩ := ix_of (by omega) e3 (if10 c1)
      refine V_lv [(0, .ref (gA g 0)), (1, .int (nI u)), (2, .int (nI j)), (3, .int z), (4, .ref (gA g (17 + u)))] rfl ?_
      refine V_iload_n C d_G_link_22 rfl ?_
      refine V_iconst (v := 0) C d_G_link_23 (by decide) ?_
      refine V_aload_n C d_G_link_24 rfl ?_
      refine V_getG C 1 (by decide) wf_G_15 rfl rfl d_G_link_25 ?_
      refine V_iconst (v := 1) C d_G_link_28 (by decide) ?_
      refine V_isub C d_G_link_29 ?_
      refine V_callS C (As := [.int z, .int 0, .int ((h2 0 1) - 1)]) (st := []) (c_G_is E h2 z 0 _) wc_G_is (fun _ _ => codeIs) wz_G wl_G_38 wt_G_is ⟨by decide, by decide⟩ rfl ⟨by decide, by decide⟩ ⟨by decide, by decide⟩ (by decide) d_G_link_30 (fun r h3 hp => ?_) (fun X h1 hp => hp.elim)
      obtain ⟨rfl, rfl⟩ := hp
      refine V_if_eq C 40 d_G_link_33 (by decide) (fun c2 => ?_) (fun c2 => ?_)
      · refine V_iconst (v := 0) C d_G_link_40 (by decide) ?_
        refine V_callS C (As := [.int 0]) (st := []) (c_G_there E h3 0) wc_G_there (fun _ _ => codeIs) wz_G wl_G_42 wt_G_there ⟨by decide, by decide⟩ rfl ⟨by decide, by decide⟩ ⟨by decide, by decide⟩ (by decide) d_G_link_41 (fun r h4 hp => absurd rfl hp.2.2) (fun X h4 hp => ?_)
        obtain ⟨rfl, rfl, -⟩ := hp
        exact VX_leave C hx ⟨rfl, rfl, fun ⟨u2, j, t, q1, q2, q3, q4, q5, q6⟩ => ix_no hG.2.1 hC.1 q5 q6 c2⟩
      · obtain ⟨t, ht, rfl⟩ := ix_of hG.2.1 hC.1 (if10 c2)
        refine V_lv [(0, .ref (gA g 0)), (1, .int (nI u)), (2, .int (nI j)), (3, .int (nI t)), (4, .ref (gA g (17 + u)))] rfl ?_
        refine V_iconst (v := 1) C d_G_link_36 (by decide) ?_
        refine V_goto C 41 d_G_link_37 (by decide) ?_
        refine V_callS C (As := [.int 1]) (st := []) (c_G_there E h3 1) wc_G_there (fun _ _ => codeIs) wz_G wl_G_42 wt_G_there ⟨by decide, by decide⟩ rfl ⟨by decide, by decide⟩ ⟨by decide, by decide⟩ (by decide) d_G_link_41 (fun r h4 hp => ?_) (fun X h4 hp => absurd hp.2.2 (by decide))
        obtain ⟨rfl, rfl, -⟩ := hp
        refine V_aload C d_G_link_44 rfl ?_
        refine V_getN C u (Nat.lt_of_lt_of_le hu hG.2.1) 4 (by decide) wn_G_63 rfl rfl d_G_link_46 ?_
        refine V_iload_n C d_G_link_49 rfl ?_
        refine V_iload_n C d_G_link_50 rfl ?_
        refine V_iast C (77 + u) 12 j (by omega) (fun _ => cel_nx) rfl (by omega) (by decide) d_G_link_51 (fun h5 eh5 => ?_)
        refine V_aload_n C d_G_link_52 rfl ?_
        refine V_iconst (v := 0) C d_G_link_53 (by decide) ?_
        refine V_putG C 2 (by decide) wf_G_49 rfl rfl rfl rfl d_G_link_54 (fun h6 eh6 => ?_)
        exact V_vret C hr d_G_link_57 ⟨rfl, u, j, t, hu, rfl, hj, rfl, ht, rfl, rep_link hC hG.2.1 eh5 hu eh6⟩
  · obtain ⟨rfl, rfl, hno⟩ := hp
    exact VX_wide (c' := 2) (s' := 12) (by decide) (by decide) (VX_leave C hx ⟨rfl, rfl, fun ⟨u, j, t, q1, q2, _⟩ => hno u q1 q2⟩)
set_option maxHeartbeats 4000000 in
theorem c_G_next {l : Launch} {g : Gh} (E : gOk g ∧ l.stackTraces = false) (G : Gr) (h : Pic) (hG : Good G) (hC : RepC G h) (x y : Int32) : Ct l g y_G_next k_G_next (RM 10 2 12) [.ref (gA g 0), .int x, .int y] h (fun r h' => h' = h ∧ ∃ u j, u < Gn G ∧ x = nI u ∧ j < jt G u ∧ y = nI j ∧ r = some (.int (nI (Gx G u j)))) (fun X h' => h' = h ∧ X = "java/lang/IndexOutOfBoundsException" ∧ ¬ ∃ u j, u < Gn G ∧ x = nI u ∧ j < jt G u ∧ y = nI j) := by
  refine Ct_of E.1 E.2 (by decide) (Nat.le_of_ble_eq_true rfl) (fun M C hr hx => ?_)
  have C : Cx _ M g "GameGraph" b_G_next 4 := C
  refine V_lv [(0, .ref (gA g 0)), (1, .int x), (2, .int y)] rfl ?_
  refine V_aload_n C d_G_next_0 rfl ?_
  refine V_iload_n C d_G_next_1 rfl ?_
  refine V_callV C "GameGraph" (As := [.int x]) (st := []) (c_G_find E h (Gn G) hG.2.1 hC.1 x) wc_G_find (fun _ _ => codeIs) wz_G wl_G_53 wi_G_find ws_G_find ⟨by decide, by decide⟩ rfl recvG ⟨by decide, by decide⟩ ⟨by decide, by decide⟩ (by decide) d_G_next_2 (fun r h1 hp => ?_) (fun X h1 hp => ?_)
  · obtain ⟨rfl, u, hu, rfl, rfl⟩ := hp
    refine V_lv [(0, .ref (gA g 0)), (1, .int (nI u)), (2, .int y)] rfl ?_
    have hG60 : Gn G ≤ 60 := hG.2.1
    have hj12 := jt_le hG hu
    obtain ⟨e0, e1, e2, e3, e4⟩ := hC.2 u hu
    refine V_astore_n C [(0, .ref (gA g 0)), (1, .int (nI u)), (2, .int y), (3, .ref (gA g (17 + u)))] d_G_next_5 (by decide) rfl rfl ?_
    refine V_iload_n C d_G_next_6 rfl ?_
    refine V_iconst (v := 0) C d_G_next_7 (by decide) ?_
    refine V_aload_n C d_G_next_8 rfl ?_
    refine V_getN C u (Nat.lt_of_lt_of_le hu hG.2.1) 3 (by decide) wn_G_60 rfl rfl d_G_next_9 ?_
    refine V_iconst (v := 1) C d_G_next_12 (by decide) ?_
    refine V_isub C d_G_next_13 ?_
    refine V_callS C (As := [.int y, .int 0, .int ((h1 (17 + u) 3) - 1)]) (st := []) (c_G_is E h1 y 0 _) wc_G_is (fun _ _ => codeIs) wz_G wl_G_38 wt_G_is ⟨by decide, by decide⟩ rfl ⟨by decide, by decide⟩ ⟨by decide, by decide⟩ (by decide) d_G_next_14 (fun r h2 hp => ?_) (fun X h1 hp => hp.elim)
    obtain ⟨rfl, rfl⟩ := hp
    refine V_callS C (As := [.int (if 0 ≤ y ∧ y ≤ h2 (17 + u) 3 - 1 then 1 else 0)]) (st := []) (c_G_there E h2 _) wc_G_there (fun _ _ => codeIs) wz_G wl_G_42 wt_G_there ⟨by decide, by decide⟩ rfl ⟨by decide, by decide⟩ ⟨by decide, by decide⟩ (by decide) d_G_next_17 (fun r h3 hp => ?_) (fun X h3 hp => ?_)
    · obtain ⟨rfl, rfl, c1⟩ := hp
      obtain ⟨j, hj, rfl⟩ := ix_of (by omega) e3 (if10 c1)
      refine V_lv [(0, .ref (gA g 0)), (1, .int (nI u)), (2, .int (nI j)), (3, .ref (gA g (17 + u)))] rfl ?_
      refine V_aload_n C d_G_next_20 rfl ?_
      refine V_getN C u (Nat.lt_of_lt_of_le hu hG.2.1) 4 (by decide) wn_G_63 rfl rfl d_G_next_21 ?_
      refine V_iload_n C d_G_next_24 rfl ?_
      refine V_iald C (77 + u) 12 j (by omega) cel_nx rfl (by omega) (by decide) d_G_next_25 ?_
      exact V_iret C hr rfl d_G_next_26 ⟨rfl, u, j, hu, rfl, hj, rfl, by rw [e4 j hj]⟩
    · obtain ⟨rfl, rfl, c1⟩ := hp
      exact VX_leave C hx ⟨rfl, rfl, fun ⟨u2, j, q1, q2, q3, q4⟩ => by have e := (nI_eq (by omega) (by omega)).mp q2; subst e; exact ix_no (by omega) e3 q3 q4 c1⟩
  · obtain ⟨rfl, rfl, hno⟩ := hp
    exact VX_wide (c' := 2) (s' := 12) (by decide) (by decide) (VX_leave C hx ⟨rfl, rfl, fun ⟨u, j, q1, q2, _⟩ => hno u q1 q2⟩)
end
section
-- ===== printed by gen/w3.py: GameGraph.reach =====
theorem RepC.fr {G : Gr} {h h' : Pic} (hC : RepC G h) (hn : Gn G ≤ 60) (h1 : h' 0 1 = h 0 1) (h2 : ∀ u i, u < 60 → i < 4 → h' (17 + u) i = h (17 + u) i) (h3 : ∀ u i, u < 60 → h' (77 + u) i = h (77 + u) i) : RepC G h' := by
  obtain ⟨a, b⟩ := hC
  refine ⟨by rw [h1]; exact a, fun u hu => ?_⟩
  obtain ⟨b1, b2, b3, b4, b5⟩ := b u hu
  rw [h2 u 0 (by omega) (by omega), h2 u 1 (by omega) (by omega), h2 u 2 (by omega) (by omega), h2 u 3 (by omega) (by omega)]
  exact ⟨b1, b2, b3, b4, fun j hj => by rw [h3 u j (by omega)]; exact b5 j hj⟩
/-- what reach() may change -/
def FrR (h h' : Pic) : Prop := ∀ k i, k ≠ 2 → ¬ (k = 0 ∧ i = 3) → ¬ (17 ≤ k ∧ k < 77 ∧ i = 5) → h' k i = h k i
theorem FrR.repC {G : Gr} {h h' : Pic} (f : FrR h h') (hC : RepC G h) (hn : Gn G ≤ 60) : RepC G h' :=
  hC.fr hn (f 0 1 (by omega) (by omega) (by omega)) (fun u i hu hi => f _ _ (by omega) (by omega) (by omega)) (fun u i hu => f _ _ (by omega) (by omega) (by omega))
theorem FrR.sameM {h h' : Pic} (f : FrR h h') : SameM h h' := fun k h1 h2 => funext fun i => f k i (by omega) (by omega) (by omega)
def flg (h : Pic) (v : Nat) : Prop := h (17 + v) 5 = 1
/-- reach() at its outer loop's head: m are found, k of them are done -/
def BI (G : Gr) (h0 h : Pic) (m k : Nat) : Prop :=
  FrR h0 h ∧ h 0 3 = nI m ∧ (∀ v, v < Gn G → h (17 + v) 5 = 0 ∨ h (17 + v) 5 = 1) ∧ m = cnt (flg h) (Gn G) ∧
  (∀ i, i < m → ∃ u, u < Gn G ∧ h 2 i = nI u ∧ flg h u) ∧ (∀ v, v < Gn G → flg h v → ∃ i, i < m ∧ h 2 i = nI v) ∧ (∀ v, v < Gn G → flg h v → Reach G 0 v) ∧ flg h 0 ∧
  ∀ i u, i < k → u < Gn G → h 2 i = nI u → ∀ j, j < jt G u → flg h (Gx G u j)
def IB (G : Gr) (h0 h : Pic) (m k u j : Nat) : Prop := BI G h0 h m k ∧ k < m ∧ u < Gn G ∧ h 2 k = nI u ∧ flg h u ∧ ∀ i, i < j → flg h (Gx G u i)
theorem BI.le {G : Gr} {h0 h : Pic} {m k : Nat} (b : BI G h0 h m k) : m ≤ Gn G := by
  rw [b.2.2.2.1]; exact cnt_le _ _
theorem BI_exit {G : Gr} (hG : Good G) {h0 h : Pic} {m k : Nat} (b : BI G h0 h m k) (hk : m ≤ k) : FrR h0 h ∧ (∀ v, v < Gn G → (flg h v ↔ Reach G 0 v)) ∧ (∀ v, v < Gn G → h (17 + v) 5 = 0 ∨ h (17 + v) 5 = 1) ∧ h 0 3 = nI (cnt (Reach G 0) (Gn G)) := by
  obtain ⟨b1, b2, b3, b4, b5, b6, b7, b8, b9⟩ := b
  have hiff : ∀ v, v < Gn G → (flg h v ↔ Reach G 0 v) := fun v hv => by
    refine ⟨b7 v hv, fun hr => ?_⟩
    have := hr (fun x => x < Gn G ∧ flg h x) ⟨by have := hG.1; omega, b8⟩ (fun a c ⟨ha, hf⟩ e => ?_)
    · exact this.2
    · obtain ⟨i, hi, e2⟩ := b6 a ha hf
      obtain ⟨-, j, hj, rfl⟩ := id e
      exact ⟨e.lt hG, b9 i a (by omega) ha e2 j hj⟩
  refine ⟨b1, hiff, b3, ?_⟩
  rw [b2, b4, cnt_congr hiff]
theorem IB_exit {G : Gr} {h0 h : Pic} {m k u : Nat} (b : IB G h0 h m k u (jt G u)) (hn : Gn G ≤ 60) : BI G h0 h m (k + 1) ∧ k + 1 ≤ m := by
  obtain ⟨⟨b1, b2, b3, b4, b5, b6, b7, b8, b9⟩, c1, c2, c3, c4, c5⟩ := b
  refine ⟨⟨b1, b2, b3, b4, b5, b6, b7, b8, fun i v hi hv e j hj => ?_⟩, c1⟩
  by_cases q : i = k
  · subst q
    have := (nI_eq (by omega) (by omega)).mp (c3.symm.trans e)
    subst this
    exact c5 j hj
  · exact b9 i v (by omega) hv e j hj
theorem IB_skip {G : Gr} {h0 h : Pic} {m k u j : Nat} (b : IB G h0 h m k u j) (hf : flg h (Gx G u j)) : IB G h0 h m k u (j + 1) := by
  obtain ⟨b0, c1, c2, c3, c4, c5⟩ := b
  refine ⟨b0, c1, c2, c3, c4, fun i hi => ?_⟩
  by_cases q : i = j
  · subst q; exact hf
  · exact c5 i (by omega)
theorem flg_pu {h h1 h2 h3 : Pic} {t m : Nat} {x y : Int32} (e1 : h1 = pu h (17 + t) 5 1) (e2 : h2 = pu h1 2 m x) (e3 : h3 = pu h2 0 3 y) (v : Nat) : flg h3 v ↔ flg h v ∨ v = t := by
  have a : h3 (17 + v) 5 = if v = t then 1 else h (17 + v) 5 := by
    rw [e3, pu_k (by omega), e2, pu_k (by omega), e1]
    unfold pu
    by_cases q : v = t
    · subst q; simp
    · rw [if_neg (by omega), if_neg q]
  unfold flg
  rw [a]
  by_cases q : v = t
  · simp [q]
  · simp [q]
theorem IB_new {G : Gr} (hG : Good G) {h0 h h1 h2 h3 : Pic} {m k u j t : Nat} (b : IB G h0 h m k u j) (hj : j < jt G u) (ht : Gx G u j = t) (hf : h (17 + t) 5 = 0) (e1 : h1 = pu h (17 + t) 5 1) (e2 : h2 = pu h1 2 m (nI t)) (e3 : h3 = pu h2 0 3 (nI (m + 1))) : IB G h0 h3 (m + 1) k u (j + 1) := by
  obtain ⟨⟨b1, b2, b3, b4, b5, b6, b7, b8, b9⟩, c1, c2, c3, c4, c5⟩ := b
  have hn := hG.2.1
  have hte : Edge G u t := ⟨c2, j, hj, ht⟩
  have htn := hte.lt hG
  have hfl := flg_pu e1 e2 e3
  have hnf : ¬ flg h t := by unfold flg; rw [hf]; decide
  have hw : ∀ i, i ≠ m → h3 2 i = h 2 i := fun i q => by rw [e3, pu_k (by omega), e2, pu_i q, e1, pu_k (by omega)]
  have hwm : h3 2 m = nI t := by rw [e3, pu_k (by omega), e2, pu_self]
  refine ⟨⟨fun K i q1 q2 q3 => ?_, by rw [e3, pu_self], fun v hv => ?_, ?_, fun i hi => ?_, fun v hv q => ?_, fun v hv q => ?_, (hfl 0).mpr (Or.inl b8), fun i v hi hv e a ha => ?_⟩, by omega, c2, by rw [hw k (by omega)]; exact c3, (hfl u).mpr (Or.inl c4), fun i hi => ?_⟩
  · rw [e3]
    unfold pu
    rw [if_neg q2, e2, pu_k q1, e1]
    unfold pu
    rw [if_neg (by omega)]
    exact b1 K i q1 q2 q3
  · by_cases q : v = t
    · exact Or.inr ((hfl v).mpr (Or.inr q))
    · rcases b3 v hv with r | r
      · refine Or.inl ?_
        rw [e3, pu_k (by omega), e2, pu_k (by omega), e1, pu_k (by omega)]; exact r
      · exact Or.inr ((hfl v).mpr (Or.inl r))
  · rw [b4]; exact (cnt_add htn hnf (fun i _ => hfl i)).symm
  · by_cases q : i = m
    · subst q; exact ⟨t, htn, hwm, (hfl t).mpr (Or.inr rfl)⟩
    · obtain ⟨v, v1, v2, v3⟩ := b5 i (by omega)
      exact ⟨v, v1, by rw [hw i q]; exact v2, (hfl v).mpr (Or.inl v3)⟩
  · rcases (hfl v).mp q with q | q
    · obtain ⟨i, i1, i2⟩ := b6 v hv q
      exact ⟨i, by omega, by rw [hw i (by omega)]; exact i2⟩
    · subst q; exact ⟨m, by omega, hwm⟩
  · rcases (hfl v).mp q with q | q
    · exact b7 v hv q
    · subst q; exact (b7 u c2 c4).st hte
  · exact (hfl _).mpr (Or.inl (b9 i v hi hv (by rw [← hw i (by omega)]; exact e) a ha))
  · by_cases q : i = j
    · subst q; exact (hfl _).mpr (Or.inr ht)
    · exact (hfl _).mpr (Or.inl (c5 i (by omega)))
theorem BI_init {G : Gr} (hG : Good G) {h h1 h2 h3 : Pic} (e1 : ∀ k i, h1 k i = if 17 + 0 ≤ k ∧ k < 17 + Gn G ∧ i = 5 then (if k = 17 then 1 else 0) else h k i) (e2 : h2 = pu h1 2 0 0) (e3 : h3 = pu h2 0 3 1) : BI G h h3 1 0 := by
  have hn := hG.2.1
  have h1n := hG.1
  have hs : ∀ v, v < Gn G → h3 (17 + v) 5 = if v = 0 then 1 else 0 := fun v hv => by
    rw [e3, pu_k (by omega), e2, pu_k (by omega), e1, if_pos (by omega)]
    by_cases q : v = 0
    · rw [if_pos (by omega), if_pos q]
    · rw [if_neg (by omega), if_neg q]
  have hf : ∀ v, v < Gn G → (flg h3 v ↔ v = 0) := fun v hv => by
    unfold flg
    rw [hs v hv]
    by_cases q : v = 0
    · simp [q]
    · simp [q]
  have hw : h3 2 0 = nI 0 := by rw [e3, pu_k (by omega), e2, pu_self, nI_0]
  refine ⟨fun K i q1 q2 q3 => ?_, by rw [e3, pu_self]; rfl, fun v hv => ?_, ?_, fun i hi => ⟨0, by omega, by rw [show i = 0 by omega]; exact hw, (hf 0 (by omega)).mpr rfl⟩, fun v hv q => ⟨0, by omega, by rw [(hf v hv).mp q]; exact hw⟩, fun v hv q => by rw [(hf v hv).mp q]; exact Reach.rf, (hf 0 (by omega)).mpr rfl, fun i _ hi => by omega⟩
  · rw [e3]
    unfold pu
    rw [if_neg q2, e2, pu_k q1, e1, if_neg (by omega)]
  · rw [hs v hv]
    by_cases q : v = 0
    · simp [q]
    · simp [q]
  · have a := cnt_add (P := fun _ => False) (Q := flg h3) (n := Gn G) (k := 0) (by omega) (fun q => q) (fun i hi => by rw [hf i hi]; simp)
    have z : cnt (fun _ => False) (Gn G) = 0 := by
      have : ∀ n, cnt (fun _ => False) n = 0 := fun n => by
        induction n with
        | zero => rfl
        | succ n ih => rw [cnt_n (fun q => q), ih]
      exact this _
    rw [a, z]
set_option maxHeartbeats 4000000 in
theorem lp_reach1 {l : Launch} {R : Room} {args : Array Value} {M : MT} {g : Gh} {Q : State → Prop} {cells slots : Nat} (C : Cx args M g "GameGraph" b_G_reach 5) {m : Nat} (hm : m ≤ 60) :
    ∀ (n j : Nat) (h : Pic), j ≤ m → m + 1 ≤ j + n → h 0 1 = nI m → (∀ h' : Pic, (∀ k i, h' k i = if 17 + j ≤ k ∧ k < 17 + m ∧ i = 5 then (if k = 17 then 1 else 0) else h k i) → V l R args M g 5 Q cells slots h' 34 [(0, .ref (gA g 0))] []) → V l R args M g 5 Q cells slots h 2 [(0, .ref (gA g 0)), (1, .int (nI j))] [] := by
  intro n
  induction n with
  | zero => intro j h b1 b2; omega
  | succ n ih =>
    intro j h b1 b2 hc k
    refine V_iload_n C d_G_reach_2 rfl ?_
    refine V_aload_n C d_G_reach_3 rfl ?_
    refine V_getG C 1 (by decide) wf_G_15 rfl rfl d_G_reach_4 ?_
    refine V_topi (nI m) (hc) ?_
    refine V_icmp_ge C 34 d_G_reach_7 (by decide) (fun c1 => ?_) (fun c1 => ?_)
    · have e := le_ge (by omega) (by omega) c1
      have e : j = m := by omega
      subst e
      refine V_lv [(0, .ref (gA g 0))] rfl ?_
      exact k h (fun k i => by rw [if_neg (by omega)])
    · have hl := nle_lt (by omega) (by omega) c1
      refine V_aload_n C d_G_reach_10 rfl ?_
      refine V_getG C 0 (by decide) wf_G_11 rfl rfl d_G_reach_11 ?_
      refine V_iload_n C d_G_reach_14 rfl ?_
      refine V_aald C j rfl (by omega) d_G_reach_15 ?_
      refine V_iload_n C d_G_reach_16 rfl ?_
      refine V_if_ne C 24 d_G_reach_17 (by decide) (fun c2 => ?_) (fun c2 => ?_)
      · have hj : j ≠ 0 := fun e => c2 (by rw [e]; exact nI_0)
        refine V_iconst (v := 0) C d_G_reach_24 (by decide) ?_
        refine V_putN C j (by omega) 5 (by decide) wn_G_66 rfl rfl rfl rfl d_G_reach_25 (fun h1 eh1 => ?_)
        refine V_iinc C [(0, .ref (gA g 0)), (1, .int (nI (j + 1)))] d_G_reach_28 rfl (nI_1 _) (by decide) rfl rfl ?_
        refine V_goto C 2 d_G_reach_31 (by decide) ?_
        refine ih (j + 1) h1 (by omega) (by omega) (by rw [eh1, pu_k (by omega)]; exact hc) (fun h' hs => k h' (fun K i => ?_))
        rw [hs K i, eh1]
        unfold pu
        by_cases q : K = 17 + j ∧ i = 5
        · rw [if_neg (by omega), if_pos q, if_pos (by omega), if_neg (by omega)]
        · by_cases q2 : 17 + (j + 1) ≤ K ∧ K < 17 + m ∧ i = 5
          · have q3 : 17 + j ≤ K ∧ K < 17 + m ∧ i = 5 := by omega
            rw [if_pos q2, if_pos q3]
          · rw [if_neg q2, if_neg q, if_neg (by omega)]
      · have hj : j = 0 := by
          rcases Nat.eq_zero_or_pos j with q | q
          · exact q
          · exact absurd c2 (nI_ne0 q (by omega))
        refine V_iconst (v := 1) C d_G_reach_20 (by decide) ?_
        refine V_goto C 25 d_G_reach_21 (by decide) ?_
        refine V_putN C j (by omega) 5 (by decide) wn_G_66 rfl rfl rfl rfl d_G_reach_25 (fun h1 eh1 => ?_)
        refine V_iinc C [(0, .ref (gA g 0)), (1, .int (nI (j + 1)))] d_G_reach_28 rfl (nI_1 _) (by decide) rfl rfl ?_
        refine V_goto C 2 d_G_reach_31 (by decide) ?_
        refine ih (j + 1) h1 (by omega) (by omega) (by rw [eh1, pu_k (by omega)]; exact hc) (fun h' hs => k h' (fun K i => ?_))
        rw [hs K i, eh1]
        unfold pu
        by_cases q : K = 17 + j ∧ i = 5
        · rw [if_neg (by omega), if_pos q, if_pos (by omega), if_pos (by omega)]
        · by_cases q2 : 17 + (j + 1) ≤ K ∧ K < 17 + m ∧ i = 5
          · have q3 : 17 + j ≤ K ∧ K < 17 + m ∧ i = 5 := by omega
            rw [if_pos q2, if_pos q3]
          · rw [if_neg q2, if_neg q, if_neg (by omega)]
set_option maxHeartbeats 4000000 in
theorem lp_reach3 {l : Launch} {R : Room} {args : Array Value} {M : MT} {g : Gh} {Q : State → Prop} {cells slots : Nat} (C : Cx args M g "GameGraph" b_G_reach 5) {G : Gr} (hG : Good G) {h0 : Pic} (hC0 : RepC G h0) {k u : Nat} :
    ∀ (n j : Nat) (h : Pic) (m : Nat), j ≤ jt G u → jt G u + 1 ≤ j + n → IB G h0 h m k u j → (∀ (h' : Pic) (m' : Nat), BI G h0 h' m' (k + 1) → k + 1 ≤ m' → V l R args M g 5 Q cells slots h' 136 [(0, .ref (gA g 0)), (1, .int (nI k))] []) → V l R args M g 5 Q cells slots h 70 [(0, .ref (gA g 0)), (1, .int (nI k)), (2, .ref (gA g (17 + u))), (3, .int (nI j))] [] := by
  intro n
  induction n with
  | zero => intro j h m b1 b2; omega
  | succ n ih =>
    intro j h m b1 b2 hI kk
    have hn := hG.2.1
    have hC : RepC G h := hI.1.1.repC hC0 hn
    have hu : u < Gn G := hI.2.2.1
    have hj12 := jt_le hG hu
    obtain ⟨e0, e1, e2, e3, e4⟩ := hC.2 u hu
    refine V_iload_n C d_G_reach_70 rfl ?_
    refine V_aload_n C d_G_reach_71 rfl ?_
    refine V_getN C u (by omega) 3 (by decide) wn_G_60 rfl rfl d_G_reach_72 ?_
    refine V_topi (nI (jt G u)) (e3) ?_
    refine V_icmp_ge C 136 d_G_reach_75 (by decide) (fun c1 => ?_) (fun c1 => ?_)
    · have e := le_ge (by omega) (by omega) c1
      have e : j = jt G u := by omega
      subst e
      refine V_lv [(0, .ref (gA g 0)), (1, .int (nI k))] rfl ?_
      obtain ⟨x1, x2⟩ := IB_exit hI hn
      exact kk h m x1 x2
    · have hl := nle_lt (by omega) (by omega) c1
      obtain ⟨t, ht⟩ : ∃ t, Gx G u j = t := ⟨_, rfl⟩
      have htn : t < Gn G := ht ▸ hG.2.2.2.2 u j hu hl
      have e5 : h (77 + u) j = nI t := by rw [e4 j hl, ht]
      refine V_aload_n C d_G_reach_78 rfl ?_
      refine V_getG C 0 (by decide) wf_G_11 rfl rfl d_G_reach_79 ?_
      refine V_aload_n C d_G_reach_82 rfl ?_
      refine V_getN C u (by omega) 4 (by decide) wn_G_63 rfl rfl d_G_reach_83 ?_
      refine V_iload_n C d_G_reach_86 rfl ?_
      refine V_iald C (77 + u) 12 j (by omega) cel_nx rfl (by omega) (by decide) d_G_reach_87 ?_
      refine V_topi (nI t) (e5) ?_
      refine V_aald C t rfl (by omega) d_G_reach_88 ?_
      refine V_astore C [(0, .ref (gA g 0)), (1, .int (nI k)), (2, .ref (gA g (17 + u))), (3, .int (nI j)), (4, .ref (gA g (17 + t)))] d_G_reach_89 (by decide) rfl rfl ?_
      refine V_aload C d_G_reach_91 rfl ?_
      refine V_getN C t (by omega) 5 (by decide) wn_G_66 rfl rfl d_G_reach_93 ?_
      refine V_if_ne C 130 d_G_reach_96 (by decide) (fun c2 => ?_) (fun c2 => ?_)
      · have hf : flg h (Gx G u j) := by rw [ht]; exact (hI.1.2.2.1 t htn).resolve_left c2
        refine V_iinc C [(0, .ref (gA g 0)), (1, .int (nI k)), (2, .ref (gA g (17 + u))), (3, .int (nI (j + 1))), (4, .ref (gA g (17 + t)))] d_G_reach_130 rfl (nI_1 _) (by decide) rfl rfl ?_
        refine V_goto C 70 d_G_reach_133 (by decide) ?_
        refine V_lv [(0, .ref (gA g 0)), (1, .int (nI k)), (2, .ref (gA g (17 + u))), (3, .int (nI (j + 1)))] rfl ?_
        exact ih (j + 1) h m (by omega) (by omega) (IB_skip hI hf) kk
      · have hm60 : m < 60 := by
          have := cnt_lt (P := flg h) htn (by unfold flg; rw [c2]; decide)
          rw [← hI.1.2.2.2.1] at this
          omega
        refine V_aload C d_G_reach_99 rfl ?_
        refine V_iconst (v := 1) C d_G_reach_101 (by decide) ?_
        refine V_putN C t (by omega) 5 (by decide) wn_G_66 rfl rfl rfl rfl d_G_reach_102 (fun h1 eh1 => ?_)
        refine V_aload_n C d_G_reach_105 rfl ?_
        refine V_getG C 6 (by decide) wf_G_19 rfl rfl d_G_reach_106 ?_
        refine V_aload_n C d_G_reach_109 rfl ?_
        refine V_getG C 3 (by decide) wf_G_69 rfl rfl d_G_reach_110 ?_
        refine V_topi (nI m) (by rw [eh1, pu_k (by omega)]; exact hI.1.2.1) ?_
        refine V_aload_n C d_G_reach_113 rfl ?_
        refine V_getN C u (by omega) 4 (by decide) wn_G_63 rfl rfl d_G_reach_114 ?_
        refine V_iload_n C d_G_reach_117 rfl ?_
        refine V_iald C (77 + u) 12 j (by omega) cel_nx rfl (by omega) (by decide) d_G_reach_118 ?_
        refine V_topi (nI t) (by rw [eh1, pu_k (by omega)]; exact e5) ?_
        refine V_iast C 2 60 m (by decide) (fun _ => rfl) rfl hm60 (by decide) d_G_reach_119 (fun h2 eh2 => ?_)
        refine V_aload_n C d_G_reach_120 rfl ?_
        refine V_dup C d_G_reach_121 rfl ?_
        refine V_getG C 3 (by decide) wf_G_69 rfl rfl d_G_reach_122 ?_
        refine V_iconst (v := 1) C d_G_reach_125 (by decide) ?_
        refine V_iadd C d_G_reach_126 ?_
        refine V_topi (nI (m + 1)) (by rw [show h2 0 3 = nI m by rw [eh2, pu_k (by omega), eh1, pu_k (by omega)]; exact hI.1.2.1]; exact nI_1 m) ?_
        refine V_putG C 3 (by decide) wf_G_69 rfl rfl rfl rfl d_G_reach_127 (fun h3 eh3 => ?_)
        refine V_iinc C [(0, .ref (gA g 0)), (1, .int (nI k)), (2, .ref (gA g (17 + u))), (3, .int (nI (j + 1))), (4, .ref (gA g (17 + t)))] d_G_reach_130 rfl (nI_1 _) (by decide) rfl rfl ?_
        refine V_goto C 70 d_G_reach_133 (by decide) ?_
        refine V_lv [(0, .ref (gA g 0)), (1, .int (nI k)), (2, .ref (gA g (17 + u))), (3, .int (nI (j + 1)))] rfl ?_
        exact ih (j + 1) h3 (m + 1) (by omega) (by omega) (IB_new hG hI hl ht c2 eh1 eh2 eh3) kk
set_option maxHeartbeats 4000000 in
theorem lp_reach2 {l : Launch} {R : Room} {args : Array Value} {M : MT} {g : Gh} {Q : State → Prop} {cells slots : Nat} (C : Cx args M g "GameGraph" b_G_reach 5) {G : Gr} (hG : Good G) {h0 : Pic} (hC0 : RepC G h0) :
    ∀ (n j : Nat) (h : Pic) (m : Nat), j ≤ Gn G → Gn G + 1 ≤ j + n → j ≤ m → BI G h0 h m j → (∀ (h' : Pic), (∃ m' k', BI G h0 h' m' k' ∧ m' ≤ k') → V l R args M g 5 Q cells slots h' 142 [(0, .ref (gA g 0))] []) → V l R args M g 5 Q cells slots h 48 [(0, .ref (gA g 0)), (1, .int (nI j))] [] := by
  intro n
  induction n with
  | zero => intro j h m b1 b2; omega
  | succ n ih =>
    intro j h m b1 b2 hjm hI kk
    have hn := hG.2.1
    have hmn := hI.le
    refine V_iload_n C d_G_reach_48 rfl ?_
    refine V_aload_n C d_G_reach_49 rfl ?_
    refine V_getG C 3 (by decide) wf_G_69 rfl rfl d_G_reach_50 ?_
    refine V_topi (nI m) (hI.2.1) ?_
    refine V_icmp_ge C 142 d_G_reach_53 (by decide) (fun c1 => ?_) (fun c1 => ?_)
    · have e := le_ge (by omega) (by omega) c1
      refine V_lv [(0, .ref (gA g 0))] rfl ?_
      exact kk h ⟨m, j, hI, e⟩
    · have hl := nle_lt (by omega) (by omega) c1
      obtain ⟨u, hu, ew, hf⟩ := hI.2.2.2.2.1 j hl
      refine V_aload_n C d_G_reach_56 rfl ?_
      refine V_getG C 0 (by decide) wf_G_11 rfl rfl d_G_reach_57 ?_
      refine V_aload_n C d_G_reach_60 rfl ?_
      refine V_getG C 6 (by decide) wf_G_19 rfl rfl d_G_reach_61 ?_
      refine V_iload_n C d_G_reach_64 rfl ?_
      refine V_iald C 2 60 j (by decide) rfl rfl (by omega) (by decide) d_G_reach_65 ?_
      refine V_topi (nI u) (ew) ?_
      refine V_aald C u rfl (by omega) d_G_reach_66 ?_
      refine V_astore_n C [(0, .ref (gA g 0)), (1, .int (nI j)), (2, .ref (gA g (17 + u)))] d_G_reach_67 (by decide) rfl rfl ?_
      refine V_iconst (v := 0) C d_G_reach_68 (by decide) ?_
      refine V_istore_n C [(0, .ref (gA g 0)), (1, .int (nI j)), (2, .ref (gA g (17 + u))), (3, .int 0)] d_G_reach_69 (by decide) rfl rfl ?_
      refine V_lv [(0, .ref (gA g 0)), (1, .int (nI j)), (2, .ref (gA g (17 + u))), (3, .int (nI 0))] rfl ?_
      refine lp_reach3 C hG hC0 (jt G u + 1) 0 h m (by omega) (by omega) ⟨hI, hl, hu, ew, hf, fun i hi => by omega⟩ (fun h' m' hI' hk' => ?_)
      refine V_iinc C [(0, .ref (gA g 0)), (1, .int (nI (j + 1)))] d_G_reach_136 rfl (nI_1 _) (by decide) rfl rfl ?_
      refine V_goto C 48 d_G_reach_139 (by decide) ?_
      exact ih (j + 1) h' m' (by have := hI'.le; omega) (by omega) hk' hI' kk
set_option maxHeartbeats 4000000 in
theorem c_G_reach {l : Launch} {g : Gh} (E : gOk g ∧ l.stackTraces = false) (G : Gr) (h : Pic) (hG : Good G) (hC : RepC G h) : Ct l g y_G_reach k_G_reach (RM 2 0 0) [.ref (gA g 0)] h (fun r h' => r = none ∧ FrR h h' ∧ (∀ v, v < Gn G → (flg h' v ↔ Reach G 0 v)) ∧ (∀ v, v < Gn G → h' (17 + v) 5 = 0 ∨ h' (17 + v) 5 = 1) ∧ h' 0 3 = nI (cnt (Reach G 0) (Gn G))) (fun _ _ => False) := by
  refine Ct_of E.1 E.2 (by decide) (Nat.le_of_ble_eq_true rfl) (fun M C hr hx => ?_)
  have C : Cx _ M g "GameGraph" b_G_reach 5 := C
  refine V_lv [(0, .ref (gA g 0))] rfl ?_
  refine V_iconst (v := 0) C d_G_reach_0 (by decide) ?_
  refine V_istore_n C [(0, .ref (gA g 0)), (1, .int 0)] d_G_reach_1 (by decide) rfl rfl ?_
  refine V_lv [(0, .ref (gA g 0)), (1, .int (nI 0))] rfl ?_
  refine lp_reach1 C hG.2.1 (Gn G + 1) 0 h (by omega) (by omega) hC.1 (fun h1 hs1 => ?_)
  refine V_aload_n C d_G_reach_34 rfl ?_
  refine V_getG C 6 (by decide) wf_G_19 rfl rfl d_G_reach_35 ?_
  refine V_iconst (v := 0) C d_G_reach_38 (by decide) ?_
  refine V_iconst (v := 0) C d_G_reach_39 (by decide) ?_
  refine V_iast C 2 60 0 (by decide) (fun _ => rfl) rfl (by decide) (by decide) d_G_reach_40 (fun h2 eh2 => ?_)
  refine V_aload_n C d_G_reach_41 rfl ?_
  refine V_iconst (v := 1) C d_G_reach_42 (by decide) ?_
  refine V_putG C 3 (by decide) wf_G_69 rfl rfl rfl rfl d_G_reach_43 (fun h3 eh3 => ?_)
  refine V_iconst (v := 0) C d_G_reach_46 (by decide) ?_
  refine V_istore_n C [(0, .ref (gA g 0)), (1, .int 0)] d_G_reach_47 (by decide) rfl rfl ?_
  refine V_lv [(0, .ref (gA g 0)), (1, .int (nI 0))] rfl ?_
  have hB := BI_init hG hs1 eh2 eh3
  refine lp_reach2 C hG hC (Gn G + 1) 0 h3 1 (by omega) (by omega) (by omega) hB (fun h' hx2 => ?_)
  obtain ⟨m, k, hB2, hk⟩ := hx2
  exact V_vret C hr d_G_reach_142 ⟨rfl, BI_exit hG hB2 hk⟩
end
section
-- ===== printed by gen/w4.py: GameGraph.comesBack =====
def FrB (h h' : Pic) : Prop := ∀ k i, k ≠ 2 → k ≠ 3 → h' k i = h k i
theorem FrB.repC {G : Gr} {h h' : Pic} (f : FrB h h') (hC : RepC G h) (hn : Gn G ≤ 60) : RepC G h' :=
  hC.fr hn (f 0 1 (by omega) (by omega)) (fun u i hu hi => f _ _ (by omega) (by omega)) (fun u i hu => f _ _ (by omega) (by omega))
theorem FrB.sameM {h h' : Pic} (f : FrB h h') : SameM h h' := fun k h1 h2 => funext fun i => f k i (by omega) (by omega)
def sn (h : Pic) (v : Nat) : Prop := h 3 v = 1
def CI (G : Gr) (a : Nat) (h0 h : Pic) (m k : Nat) : Prop :=
  FrB h0 h ∧ (∀ v, v < 60 → h 3 v = 0 ∨ h 3 v = 1) ∧ m = cnt (fun v => sn h v ∨ v = a) 60 ∧ ¬ sn h a ∧
  (∀ i, i < m → ∃ u, u < Gn G ∧ h 2 i = nI u ∧ (sn h u ∨ u = a)) ∧ (∀ v, v < Gn G → sn h v ∨ v = a → ∃ i, i < m ∧ h 2 i = nI v) ∧ (∀ v, v < 60 → sn h v → v < Gn G ∧ Dn G a v) ∧
  ∀ i u, i < k → u < Gn G → h 2 i = nI u → ∀ j, j < jt G u → sn h (Gx G u j)
def IC (G : Gr) (a : Nat) (h0 h : Pic) (m k u j : Nat) : Prop := CI G a h0 h m k ∧ k < m ∧ u < Gn G ∧ h 2 k = nI u ∧ (sn h u ∨ u = a) ∧ ∀ i, i < j → sn h (Gx G u i)
theorem CI.le {G : Gr} {a : Nat} {h0 h : Pic} {m k : Nat} (b : CI G a h0 h m k) : m ≤ 60 := by
  rw [b.2.2.1]; exact cnt_le _ _
theorem CI_exit {G : Gr} (hG : Good G) {a : Nat} (ha : a < Gn G) {h0 h : Pic} {m k : Nat} (b : CI G a h0 h m k) (hk : m ≤ k) : ¬ Cyc G a := by
  obtain ⟨b1, b2, b3, b4, b5, b6, b7, b8⟩ := b
  have hn := hG.2.1
  have hcl : ∀ u t, u < Gn G → sn h u ∨ u = a → Edge G u t → sn h t := fun u t hu hs e => by
    obtain ⟨i, hi, e2⟩ := b6 u hu hs
    obtain ⟨-, j, hj, rfl⟩ := e
    exact b8 i u (by omega) hu e2 j hj
  rintro ⟨w, e, hr⟩
  have := hr (fun x => x < Gn G ∧ sn h x) ⟨e.lt hG, hcl a w ha (Or.inr rfl) e⟩ (fun x y ⟨h1, h2⟩ e2 => ⟨e2.lt hG, hcl x y h1 (Or.inl h2) e2⟩)
  exact b4 this.2
theorem IC_exit {G : Gr} {a : Nat} {h0 h : Pic} {m k u : Nat} (b : IC G a h0 h m k u (jt G u)) (hn : Gn G ≤ 60) : CI G a h0 h m (k + 1) ∧ k + 1 ≤ m := by
  obtain ⟨⟨b1, b2, b3, b4, b5, b6, b7, b8⟩, c1, c2, c3, c4, c5⟩ := b
  refine ⟨⟨b1, b2, b3, b4, b5, b6, b7, fun i v hi hv e j hj => ?_⟩, c1⟩
  by_cases q : i = k
  · subst q
    have := (nI_eq (by omega) (by omega)).mp (c3.symm.trans e)
    subst this
    exact c5 j hj
  · exact b8 i v (by omega) hv e j hj
theorem IC_skip {G : Gr} {a : Nat} {h0 h : Pic} {m k u j : Nat} (b : IC G a h0 h m k u j) (hf : sn h (Gx G u j)) : IC G a h0 h m k u (j + 1) := by
  obtain ⟨b0, c1, c2, c3, c4, c5⟩ := b
  refine ⟨b0, c1, c2, c3, c4, fun i hi => ?_⟩
  by_cases q : i = j
  · subst q; exact hf
  · exact c5 i (by omega)
theorem IC_dn {G : Gr} (hG : Good G) {a : Nat} {h0 h : Pic} {m k u j t : Nat} (b : IC G a h0 h m k u j) (hj : j < jt G u) (ht : Gx G u j = t) : Dn G a t := by
  obtain ⟨⟨b1, b2, b3, b4, b5, b6, b7, b8⟩, c1, c2, c3, c4, c5⟩ := b
  have hn := hG.2.1
  have e : Edge G u t := ⟨c2, j, hj, ht⟩
  rcases c4 with q | q
  · obtain ⟨w, e2, hr⟩ := (b7 u (by omega) q).2
    exact ⟨w, e2, hr.st e⟩
  · subst q; exact ⟨t, e, Reach.rf⟩
theorem IC_new {G : Gr} (hG : Good G) {a : Nat} (ha : a < Gn G) {h0 h h1 h2 : Pic} {m k u j t : Nat} (b : IC G a h0 h m k u j) (hj : j < jt G u) (ht : Gx G u j = t) (hf : h 3 t = 0) (hta : t ≠ a) (e1 : h1 = pu h 3 t 1) (e2 : h2 = pu h1 2 m (nI t)) : IC G a h0 h2 (m + 1) k u (j + 1) := by
  have hdn := IC_dn hG b hj ht
  obtain ⟨⟨b1, b2, b3, b4, b5, b6, b7, b8⟩, c1, c2, c3, c4, c5⟩ := b
  have hn := hG.2.1
  have hte : Edge G u t := ⟨c2, j, hj, ht⟩
  have htn := hte.lt hG
  have hv3 : ∀ v, h2 3 v = if v = t then 1 else h 3 v := fun v => by
    rw [e2, pu_k (by omega), e1]
    unfold pu
    by_cases q : v = t
    · simp [q]
    · rw [if_neg (by omega), if_neg q]
  have hfl : ∀ v, sn h2 v ↔ sn h v ∨ v = t := fun v => by
    unfold sn
    rw [hv3]
    by_cases q : v = t
    · simp [q]
    · simp [q]
  have hnf : ¬ sn h t := by unfold sn; rw [hf]; decide
  have hw : ∀ i, i ≠ m → h2 2 i = h 2 i := fun i q => by rw [e2, pu_i q, e1, pu_k (by omega)]
  have hwm : h2 2 m = nI t := by rw [e2, pu_self]
  refine ⟨⟨fun K i q1 q2 => ?_, fun v hv => ?_, ?_, fun q => ?_, fun i hi => ?_, fun v hv q => ?_, fun v hv q => ?_, fun i v hi hv e x hx => ?_⟩, by omega, c2, by rw [hw k (by omega)]; exact c3, c4.imp (fun q => (hfl u).mpr (Or.inl q)) id, fun i hi => ?_⟩
  · rw [e2, pu_k q1, e1, pu_k q2]; exact b1 K i q1 q2
  · rw [hv3]
    by_cases q : v = t
    · simp [q]
    · rw [if_neg q]; exact b2 v hv
  · rw [b3]
    refine (cnt_add (k := t) (by omega) (fun q => ?_) (fun i _ => ?_)).symm
    · rcases q with q | q
      · exact hnf q
      · exact hta q
    · rw [hfl i]
      constructor
      · rintro ((q | q) | q)
        · exact Or.inl (Or.inl q)
        · exact Or.inr q
        · exact Or.inl (Or.inr q)
      · rintro ((q | q) | q)
        · exact Or.inl (Or.inl q)
        · exact Or.inr q
        · exact Or.inl (Or.inr q)
  · rcases (hfl a).mp q with q | q
    · exact b4 q
    · exact hta q.symm
  · by_cases q : i = m
    · subst q; exact ⟨t, htn, hwm, Or.inl ((hfl t).mpr (Or.inr rfl))⟩
    · obtain ⟨v, v1, v2, v3⟩ := b5 i (by omega)
      exact ⟨v, v1, by rw [hw i q]; exact v2, v3.imp (fun q => (hfl v).mpr (Or.inl q)) id⟩
  · rcases q with q | q
    · rcases (hfl v).mp q with q | q
      · obtain ⟨i, i1, i2⟩ := b6 v hv (Or.inl q)
        exact ⟨i, by omega, by rw [hw i (by omega)]; exact i2⟩
      · subst q; exact ⟨m, by omega, hwm⟩
    · obtain ⟨i, i1, i2⟩ := b6 v hv (Or.inr q)
      exact ⟨i, by omega, by rw [hw i (by omega)]; exact i2⟩
  · rcases (hfl v).mp q with q | q
    · exact b7 v hv q
    · subst q; exact ⟨htn, hdn⟩
  · exact (hfl _).mpr (Or.inl (b8 i v hi hv (by rw [← hw i (by omega)]; exact e) x hx))
  · by_cases q : i = j
    · subst q; exact (hfl _).mpr (Or.inr ht)
    · exact (hfl _).mpr (Or.inl (c5 i (by omega)))
theorem cnt_one {a n : Nat} (ha : a < n) : cnt (fun v => v = a) n = 1 := by
  have z : ∀ n, cnt (fun _ => False) n = 0 := fun n => by
    induction n with
    | zero => rfl
    | succ n ih => rw [cnt_n (fun q => q), ih]
  have := cnt_add (P := fun _ => False) (Q := fun v => v = a) (n := n) (k := a) ha (fun q => q) (fun i _ => by simp)
  rw [this, z]
theorem CI_init {G : Gr} (hG : Good G) {a : Nat} (ha : a < Gn G) {h h1 h2 : Pic} (e1 : ∀ k i, h1 k i = if k = 3 ∧ 0 ≤ i ∧ i < 60 then 0 else h k i) (e2 : h2 = pu h1 2 0 (nI a)) : CI G a h h2 1 0 := by
  have hn := hG.2.1
  have hs : ∀ v, v < 60 → h2 3 v = 0 := fun v hv => by rw [e2, pu_k (by omega), e1, if_pos (by omega)]
  have hf : ∀ v, v < 60 → ¬ sn h2 v := fun v hv => by unfold sn; rw [hs v hv]; decide
  have hw : h2 2 0 = nI a := by rw [e2, pu_self]
  refine ⟨fun K i q1 q2 => by rw [e2, pu_k q1, e1, if_neg (by omega)], fun v hv => Or.inl (hs v hv), ?_, hf a (by omega), fun i hi => ⟨a, ha, by rw [show i = 0 by omega]; exact hw, Or.inr rfl⟩, fun v hv q => ⟨0, by omega, ?_⟩, fun v hv q => absurd q (hf v hv), fun i _ hi => by omega⟩
  · rw [cnt_congr (Q := fun v => v = a) (fun i hi => ⟨fun q => q.resolve_left (hf i hi), Or.inr⟩), cnt_one (by omega)]
  · rw [q.resolve_left (hf v (by omega))]; exact hw
set_option maxHeartbeats 4000000 in
theorem lp_back1 {l : Launch} {R : Room} {args : Array Value} {M : MT} {g : Gh} {Q : State → Prop} {cells slots : Nat} (C : Cx args M g "GameGraph" b_G_comesBack 7) {x : Int32} :
    ∀ (n j : Nat) (h : Pic), j ≤ 60 → 60 + 1 ≤ j + n → True → (∀ h' : Pic, (∀ k i, h' k i = if k = 3 ∧ j ≤ i ∧ i < 60 then 0 else h k i) → V l R args M g 7 Q cells slots h' 21 [(0, .ref (gA g 0)), (1, .int x)] []) → V l R args M g 7 Q cells slots h 2 [(0, .ref (gA g 0)), (1, .int x), (2, .int (nI j))] [] := by
  intro n
  induction n with
  | zero => intro j h b1 b2; omega
  | succ n ih =>
    intro j h b1 b2 _ k
    refine V_iload_n C d_G_comesBack_2 rfl ?_
    refine V_bipush (v := 60) C d_G_comesBack_3 (by decide) ?_
    refine V_icmp_ge C 21 d_G_comesBack_5 (by decide) (fun c1 => ?_) (fun c1 => ?_)
    · have e := le_ge (m := 60) (by omega) (by omega) c1
      have e : j = 60 := by omega
      subst e
      refine V_lv [(0, .ref (gA g 0)), (1, .int x)] rfl ?_
      exact k h (fun k i => by rw [if_neg (by omega)])
    · have hl := nle_lt (m := 60) (by omega) (by omega) c1
      refine V_aload_n C d_G_comesBack_8 rfl ?_
      refine V_getG C 7 (by decide) wf_G_23 rfl rfl d_G_comesBack_9 ?_
      refine V_iload_n C d_G_comesBack_12 rfl ?_
      refine V_iconst (v := 0) C d_G_comesBack_13 (by decide) ?_
      refine V_zast C 3 60 j (by decide) (fun _ => rfl) rfl (by omega) (by decide) (Or.inl rfl) d_G_comesBack_14 (fun h1 eh1 => ?_)
      refine V_iinc C [(0, .ref (gA g 0)), (1, .int x), (2, .int (nI (j + 1)))] d_G_comesBack_15 rfl (nI_1 _) (by decide) rfl rfl ?_
      refine V_goto C 2 d_G_comesBack_18 (by decide) ?_
      refine ih (j + 1) h1 (by omega) (by omega) trivial (fun h' hs => k h' (fun K i => ?_))
      rw [hs K i, eh1]
      unfold pu
      by_cases q : K = 3 ∧ i = j
      · rw [if_neg (by omega), if_pos q, if_pos (by omega)]
      · by_cases q2 : K = 3 ∧ j + 1 ≤ i ∧ i < 60
        · have q3 : K = 3 ∧ j ≤ i ∧ i < 60 := by omega
          rw [if_pos q2, if_pos q3]
        · rw [if_neg q2, if_neg q, if_neg (by omega)]
set_option maxHeartbeats 4000000 in
theorem lp_back3 {l : Launch} {R : Room} {args : Array Value} {M : MT} {g : Gh} {Q : State → Prop} {cells slots : Nat} (C : Cx args M g "GameGraph" b_G_comesBack 7) {G : Gr} (hG : Good G) {h0 : Pic} (hC0 : RepC G h0) {a k u : Nat} (ha : a < Gn G) :
    ∀ (n j : Nat) (h : Pic) (m : Nat), j ≤ jt G u → jt G u + 1 ≤ j + n → IC G a h0 h m k u j → (∀ (h' : Pic) (m' : Nat), CI G a h0 h' m' (k + 1) → k + 1 ≤ m' → V l R args M g 7 Q cells slots h' 116 [(0, .ref (gA g 0)), (1, .int (nI a)), (2, .int (nI m')), (3, .int (nI k))] []) → (∀ h' : Pic, FrB h0 h' → Cyc G a → V l R args M g 7 Q cells slots h' 79 [(0, .ref (gA g 0))] []) → V l R args M g 7 Q cells slots h 53 [(0, .ref (gA g 0)), (1, .int (nI a)), (2, .int (nI m)), (3, .int (nI k)), (4, .ref (gA g (17 + u))), (5, .int (nI j))] [] := by
  intro n
  induction n with
  | zero => intro j h m b1 b2; omega
  | succ n ih =>
    intro j h m b1 b2 hI kk kf
    have hn := hG.2.1
    have hC : RepC G h := hI.1.1.repC hC0 hn
    have hu : u < Gn G := hI.2.2.1
    have hj12 := jt_le hG hu
    obtain ⟨e0, e1, e2, e3, e4⟩ := hC.2 u hu
    refine V_iload C d_G_comesBack_53 rfl ?_
    refine V_aload C d_G_comesBack_55 rfl ?_
    refine V_getN C u (by omega) 3 (by decide) wn_G_60 rfl rfl d_G_comesBack_57 ?_
    refine V_topi (nI (jt G u)) (e3) ?_
    refine V_icmp_ge C 116 d_G_comesBack_60 (by decide) (fun c1 => ?_) (fun c1 => ?_)
    · have e := le_ge (by omega) (by omega) c1
      have e : j = jt G u := by omega
      subst e
      refine V_lv [(0, .ref (gA g 0)), (1, .int (nI a)), (2, .int (nI m)), (3, .int (nI k))] rfl ?_
      obtain ⟨x1, x2⟩ := IC_exit hI hn
      exact kk h m x1 x2
    · have hl := nle_lt (by omega) (by omega) c1
      obtain ⟨t, ht⟩ : ∃ t, Gx G u j = t := ⟨_, rfl⟩
      have htn : t < Gn G := ht ▸ hG.2.2.2.2 u j hu hl
      have e5 : h (77 + u) j = nI t := by rw [e4 j hl, ht]
      refine V_aload C d_G_comesBack_63 rfl ?_
      refine V_getN C u (by omega) 4 (by decide) wn_G_63 rfl rfl d_G_comesBack_65 ?_
      refine V_iload C d_G_comesBack_68 rfl ?_
      refine V_iald C (77 + u) 12 j (by omega) cel_nx rfl (by omega) (by decide) d_G_comesBack_70 ?_
      refine V_topi (nI t) (e5) ?_
      refine V_istore C [(0, .ref (gA g 0)), (1, .int (nI a)), (2, .int (nI m)), (3, .int (nI k)), (4, .ref (gA g (17 + u))), (5, .int (nI j)), (6, .int (nI t))] d_G_comesBack_71 (by decide) rfl rfl ?_
      refine V_iload C d_G_comesBack_73 rfl ?_
      refine V_iload_n C d_G_comesBack_75 rfl ?_
      refine V_icmp_ne C 81 d_G_comesBack_76 (by decide) (fun c2 => ?_) (fun c2 => ?_)
      · have hta : t ≠ a := fun q => c2 (by rw [q])
        refine V_aload_n C d_G_comesBack_81 rfl ?_
        refine V_getG C 7 (by decide) wf_G_23 rfl rfl d_G_comesBack_82 ?_
        refine V_iload C d_G_comesBack_85 rfl ?_
        refine V_zald C 3 60 t (by decide) rfl rfl (by omega) (by decide) d_G_comesBack_87 ?_
        refine V_if_ne C 110 d_G_comesBack_88 (by decide) (fun c3 => ?_) (fun c3 => ?_)
        · have hf : sn h (Gx G u j) := by rw [ht]; exact (hI.1.2.1 t (by omega)).resolve_left c3
          refine V_iinc C [(0, .ref (gA g 0)), (1, .int (nI a)), (2, .int (nI m)), (3, .int (nI k)), (4, .ref (gA g (17 + u))), (5, .int (nI (j + 1))), (6, .int (nI t))] d_G_comesBack_110 rfl (nI_1 _) (by decide) rfl rfl ?_
          refine V_goto C 53 d_G_comesBack_113 (by decide) ?_
          refine V_lv [(0, .ref (gA g 0)), (1, .int (nI a)), (2, .int (nI m)), (3, .int (nI k)), (4, .ref (gA g (17 + u))), (5, .int (nI (j + 1)))] rfl ?_
          exact ih (j + 1) h m (by omega) (by omega) (IC_skip hI hf) kk kf
        · have hm60 : m < 60 := by
            have := cnt_lt (P := fun v => sn h v ∨ v = a) (n := 60) (k := t) (by omega) (by unfold sn; rw [c3]; intro q; rcases q with q | q; exact absurd q (by decide); exact hta q)
            rw [← hI.1.2.2.1] at this
            exact this
          refine V_aload_n C d_G_comesBack_91 rfl ?_
          refine V_getG C 7 (by decide) wf_G_23 rfl rfl d_G_comesBack_92 ?_
          refine V_iload C d_G_comesBack_95 rfl ?_
          refine V_iconst (v := 1) C d_G_comesBack_97 (by decide) ?_
          refine V_zast C 3 60 t (by decide) (fun _ => rfl) rfl (by omega) (by decide) (Or.inr rfl) d_G_comesBack_98 (fun h1 eh1 => ?_)
          refine V_aload_n C d_G_comesBack_99 rfl ?_
          refine V_getG C 6 (by decide) wf_G_19 rfl rfl d_G_comesBack_100 ?_
          refine V_iload_n C d_G_comesBack_103 rfl ?_
          refine V_iload C d_G_comesBack_104 rfl ?_
          refine V_iast C 2 60 m (by decide) (fun _ => rfl) rfl hm60 (by decide) d_G_comesBack_106 (fun h2 eh2 => ?_)
          refine V_iinc C [(0, .ref (gA g 0)), (1, .int (nI a)), (2, .int (nI (m + 1))), (3, .int (nI k)), (4, .ref (gA g (17 + u))), (5, .int (nI j)), (6, .int (nI t))] d_G_comesBack_107 rfl (nI_1 _) (by decide) rfl rfl ?_
          refine V_iinc C [(0, .ref (gA g 0)), (1, .int (nI a)), (2, .int (nI (m + 1))), (3, .int (nI k)), (4, .ref (gA g (17 + u))), (5, .int (nI (j + 1))), (6, .int (nI t))] d_G_comesBack_110 rfl (nI_1 _) (by decide) rfl rfl ?_
          refine V_goto C 53 d_G_comesBack_113 (by decide) ?_
          refine V_lv [(0, .ref (gA g 0)), (1, .int (nI a)), (2, .int (nI (m + 1))), (3, .int (nI k)), (4, .ref (gA g (17 + u))), (5, .int (nI (j + 1)))] rfl ?_
          exact ih (j + 1) h2 (m + 1) (by omega) (by omega) (IC_new hG ha hI hl ht c3 hta eh1 eh2) kk kf
      · have hta : t = a := (nI_eq (by omega) (by omega)).mp c2
        refine V_lv [(0, .ref (gA g 0))] rfl ?_
        exact kf h hI.1.1 (by have q := IC_dn hG hI hl ht; rw [hta] at q; exact q)
set_option maxHeartbeats 4000000 in
theorem lp_back2 {l : Launch} {R : Room} {args : Array Value} {M : MT} {g : Gh} {Q : State → Prop} {cells slots : Nat} (C : Cx args M g "GameGraph" b_G_comesBack 7) {G : Gr} (hG : Good G) {h0 : Pic} (hC0 : RepC G h0) {a : Nat} (ha : a < Gn G) :
    ∀ (n j : Nat) (h : Pic) (m : Nat), j ≤ 60 → 60 + 1 ≤ j + n → j ≤ m → CI G a h0 h m j → (∀ (h' : Pic), FrB h0 h' → ¬ Cyc G a → V l R args M g 7 Q cells slots h' 122 [(0, .ref (gA g 0))] []) → (∀ h' : Pic, FrB h0 h' → Cyc G a → V l R args M g 7 Q cells slots h' 79 [(0, .ref (gA g 0))] []) → V l R args M g 7 Q cells slots h 32 [(0, .ref (gA g 0)), (1, .int (nI a)), (2, .int (nI m)), (3, .int (nI j))] [] := by
  intro n
  induction n with
  | zero => intro j h m b1 b2; omega
  | succ n ih =>
    intro j h m b1 b2 hjm hI kk kf
    have hn := hG.2.1
    have hmn := hI.le
    refine V_iload_n C d_G_comesBack_32 rfl ?_
    refine V_iload_n C d_G_comesBack_33 rfl ?_
    refine V_icmp_ge C 122 d_G_comesBack_34 (by decide) (fun c1 => ?_) (fun c1 => ?_)
    · have e := le_ge (by omega) (by omega) c1
      refine V_lv [(0, .ref (gA g 0))] rfl ?_
      exact kk h hI.1 (CI_exit hG ha hI e)
    · have hl := nle_lt (by omega) (by omega) c1
      obtain ⟨u, hu, ew, hf⟩ := hI.2.2.2.2.1 j hl
      refine V_aload_n C d_G_comesBack_37 rfl ?_
      refine V_getG C 0 (by decide) wf_G_11 rfl rfl d_G_comesBack_38 ?_
      refine V_aload_n C d_G_comesBack_41 rfl ?_
      refine V_getG C 6 (by decide) wf_G_19 rfl rfl d_G_comesBack_42 ?_
      refine V_iload_n C d_G_comesBack_45 rfl ?_
      refine V_iald C 2 60 j (by decide) rfl rfl (by omega) (by decide) d_G_comesBack_46 ?_
      refine V_topi (nI u) (ew) ?_
      refine V_aald C u rfl (by omega) d_G_comesBack_47 ?_
      refine V_astore C [(0, .ref (gA g 0)), (1, .int (nI a)), (2, .int (nI m)), (3, .int (nI j)), (4, .ref (gA g (17 + u)))] d_G_comesBack_48 (by decide) rfl rfl ?_
      refine V_iconst (v := 0) C d_G_comesBack_50 (by decide) ?_
      refine V_istore C [(0, .ref (gA g 0)), (1, .int (nI a)), (2, .int (nI m)), (3, .int (nI j)), (4, .ref (gA g (17 + u))), (5, .int 0)] d_G_comesBack_51 (by decide) rfl rfl ?_
      refine V_lv [(0, .ref (gA g 0)), (1, .int (nI a)), (2, .int (nI m)), (3, .int (nI j)), (4, .ref (gA g (17 + u))), (5, .int (nI 0))] rfl ?_
      refine lp_back3 C hG hC0 ha (jt G u + 1) 0 h m (by omega) (by omega) ⟨hI, hl, hu, ew, hf, fun i hi => by omega⟩ (fun h' m' hI' hk' => ?_) kf
      refine V_iinc C [(0, .ref (gA g 0)), (1, .int (nI a)), (2, .int (nI m')), (3, .int (nI (j + 1)))] d_G_comesBack_116 rfl (nI_1 _) (by decide) rfl rfl ?_
      refine V_goto C 32 d_G_comesBack_119 (by decide) ?_
      exact ih (j + 1) h' m' (by have := hI'.le; omega) (by omega) hk' hI' kk kf
set_option maxHeartbeats 4000000 in
theorem c_G_comesBack {l : Launch} {g : Gh} (E : gOk g ∧ l.stackTraces = false) (G : Gr) (h : Pic) (hG : Good G) (hC : RepC G h) (a : Nat) (ha : a < Gn G) : Ct l g y_G_comesBack k_G_comesBack (RM 2 0 0) [.ref (gA g 0), .int (nI a)] h (fun r h' => FrB h h' ∧ ((r = some (.int 1) ∧ Cyc G a) ∨ (r = some (.int 0) ∧ ¬ Cyc G a))) (fun _ _ => False) := by
  refine Ct_of E.1 E.2 (by decide) (Nat.le_of_ble_eq_true rfl) (fun M C hr hx => ?_)
  have C : Cx _ M g "GameGraph" b_G_comesBack 7 := C
  refine V_lv [(0, .ref (gA g 0)), (1, .int (nI a))] rfl ?_
  refine V_iconst (v := 0) C d_G_comesBack_0 (by decide) ?_
  refine V_istore_n C [(0, .ref (gA g 0)), (1, .int (nI a)), (2, .int 0)] d_G_comesBack_1 (by decide) rfl rfl ?_
  refine V_lv [(0, .ref (gA g 0)), (1, .int (nI a)), (2, .int (nI 0))] rfl ?_
  refine lp_back1 C (60 + 1) 0 h (by omega) (by omega) trivial (fun h1 hs1 => ?_)
  refine V_iconst (v := 1) C d_G_comesBack_21 (by decide) ?_
  refine V_istore_n C [(0, .ref (gA g 0)), (1, .int (nI a)), (2, .int 1)] d_G_comesBack_22 (by decide) rfl rfl ?_
  refine V_aload_n C d_G_comesBack_23 rfl ?_
  refine V_getG C 6 (by decide) wf_G_19 rfl rfl d_G_comesBack_24 ?_
  refine V_iconst (v := 0) C d_G_comesBack_27 (by decide) ?_
  refine V_iload_n C d_G_comesBack_28 rfl ?_
  refine V_iast C 2 60 0 (by decide) (fun _ => rfl) rfl (by decide) (by decide) d_G_comesBack_29 (fun h2 eh2 => ?_)
  refine V_iconst (v := 0) C d_G_comesBack_30 (by decide) ?_
  refine V_istore_n C [(0, .ref (gA g 0)), (1, .int (nI a)), (2, .int 1), (3, .int 0)] d_G_comesBack_31 (by decide) rfl rfl ?_
  refine V_lv [(0, .ref (gA g 0)), (1, .int (nI a)), (2, .int (nI 1)), (3, .int (nI 0))] rfl ?_
  have hB := CI_init hG ha hs1 eh2
  refine lp_back2 C hG hC ha (60 + 1) 0 h2 1 (by omega) (by omega) (by omega) hB (fun h' hf hc => ?_) (fun h' hf hc => ?_)
  · refine V_iconst (v := 0) C d_G_comesBack_122 (by decide) ?_
    exact V_iret C hr rfl d_G_comesBack_123 ⟨hf, Or.inr ⟨rfl, hc⟩⟩
  · refine V_iconst (v := 1) C d_G_comesBack_79 (by decide) ?_
    exact V_iret C hr rfl d_G_comesBack_80 ⟨hf, Or.inl ⟨rfl, hc⟩⟩
end
section
-- ===== printed by gen/w5.py: GameGraph.measure =====
def FrM (h h' : Pic) : Prop := ∀ k i, k ≠ 2 → ¬ (17 ≤ k ∧ k < 77 ∧ 6 ≤ i ∧ i ≤ 10) → h' k i = h k i
theorem FrM.repC {G : Gr} {h h' : Pic} (f : FrM h h') (hC : RepC G h) (hn : Gn G ≤ 60) : RepC G h' :=
  hC.fr hn (f 0 1 (by omega) (by omega)) (fun u i hu hi => f _ _ (by omega) (by omega)) (fun u i hu => f _ _ (by omega) (by omega))
theorem FrM.sameM {h h' : Pic} (f : FrM h h') : SameM h h' := fun k h1 h2 => funext fun i => f k i (by omega) (by omega)
def stM (h : Pic) (K i : Nat) : Int32 := if i = 6 then 0 else if i = 7 then 0 else if i = 8 then 0 else if i = 9 then 0 else if i = 10 then 100 else h K i
theorem stM_at {h : Pic} {k K i : Nat} : pu (pu (pu (pu (pu h k 6 0) k 7 0) k 8 0) k 9 0) k 10 100 K i = if K = k then stM h K i else h K i := by
  unfold pu stM
  by_cases e : K = k
  · subst e
    by_cases h0 : i = 6
    · subst h0; simp
    by_cases h1 : i = 7
    · subst h1; simp
    by_cases h2 : i = 8
    · subst h2; simp
    by_cases h3 : i = 9
    · subst h3; simp
    by_cases h4 : i = 10
    · subst h4; simp
    simp [h0, h1, h2, h3, h4]
  · simp [e]
/-- done, with its length -/
def dn (G : Gr) (h : Pic) (w : Nat) : Prop := h (17 + w) 7 = 1 ∧ h (17 + w) 8 = nI (LEN G w)
def fre (h : Pic) (w : Nat) : Prop := h (17 + w) 6 = 0 ∧ h (17 + w) 7 = 0 ∧ h (17 + w) 8 = 0
def same3 (h h' : Pic) (w : Nat) : Prop := h' (17 + w) 6 = h (17 + w) 6 ∧ h' (17 + w) 7 = h (17 + w) 7 ∧ h' (17 + w) 8 = h (17 + w) 8
theorem same3.dn {G : Gr} {h h' : Pic} {w : Nat} (s : same3 h h' w) (d : dn G h w) : dn G h' w := ⟨s.2.1.trans d.1, s.2.2.trans d.2⟩
theorem same3.fre {h h' : Pic} {w : Nat} (s : same3 h h' w) (d : fre h w) : fre h' w := ⟨s.1.trans d.1, s.2.1.trans d.2.1, s.2.2.trans d.2.2⟩
theorem same3.tr {h h1 h2 : Pic} {w : Nat} (s : same3 h h1 w) (t : same3 h1 h2 w) : same3 h h2 w := ⟨t.1.trans s.1, t.2.1.trans s.2.1, t.2.2.trans s.2.2⟩
def DC (G : Gr) (h : Pic) : Prop := ∀ w, w < Gn G → Reach G 0 w → dn G h w → ∀ j, j < jt G w → dn G h (Gx G w j)
/-- at the head, u on top at depth d, q of its moves gone -/
def MI (G : Gr) (h0 h : Pic) (u d q : Nat) : Prop := FrM h0 h ∧ h 2 d = nI u ∧ u < Gn G ∧ Reach G 0 u ∧ q ≤ jt G u ∧ h (17 + u) 7 = 0 ∧ h (17 + u) 6 = nI q ∧ h (17 + u) 8 = nI (lnf (fun j => LEN G (Gx G u j)) q) ∧
  (∀ w, w < Gn G → Reach G 0 w → rk G w < rk G u → dn G h w ∨ fre h w) ∧ (∀ j, j < q → dn G h (Gx G u j)) ∧ DC G h
/-- behind the visit of u -/
def MP (G : Gr) (h0 h h' : Pic) (u d : Nat) : Prop := FrM h0 h' ∧ dn G h' u ∧ (∀ w, w < 60 → w ≠ u → rk G u ≤ rk G w → same3 h h' w) ∧ (∀ i, i < d → h' 2 i = h 2 i) ∧
  (∀ w, w < Gn G → Reach G 0 w → rk G w < rk G u → dn G h' w ∨ fre h' w) ∧ (∀ w, w < Gn G → Reach G 0 w → dn G h w → dn G h' w) ∧ DC G h' ∧ ∀ w, w < 60 → h' (17 + w) 9 = h (17 + w) 9 ∧ h' (17 + w) 10 = h (17 + w) 10
theorem MP_exit {G : Gr} (hG : Good G) (hs : Sane G) {h0 h h1 : Pic} {u d : Nat} (I : MI G h0 h u d (jt G u)) (e1 : h1 = pu h (17 + u) 7 1) : MP G h0 h h1 u d := by
  obtain ⟨a1, a2, a3, a4, a5, a6, a7, a8, a9, a10, a11⟩ := I
  have hn := hG.2.1
  have hL : dn G h1 u := ⟨by rw [e1, pu_self], by rw [e1, pu_i (by decide), a8, LEN_eq hG hs a3 a4]; rfl⟩
  have hsm : ∀ w, w ≠ u → same3 h h1 w := fun w q => ⟨by rw [e1, pu_k (by omega)], by rw [e1, pu_k (by omega)], by rw [e1, pu_k (by omega)]⟩
  have hmn : ∀ w, dn G h w → dn G h1 w := fun w q => by
    by_cases e : w = u
    · subst e; exact hL
    · exact (hsm w e).dn q
  refine ⟨fun k i q1 q2 => ?_, hL, fun w _ q _ => hsm w q, fun i _ => by rw [e1, pu_k (by omega)], fun w hw hr q => ?_, fun w _ _ q => hmn w q, fun w hw hr q j hj => ?_, fun w hw => ⟨by rw [e1, pu_i (by decide)], by rw [e1, pu_i (by decide)]⟩⟩
  · rw [e1]
    unfold pu
    rw [if_neg (by omega)]
    exact a1 k i q1 q2
  · have e : w ≠ u := fun e => by subst e; omega
    exact (a9 w hw hr q).imp (hsm w e).dn (hsm w e).fre
  · by_cases e : w = u
    · subst e; exact hmn _ (a10 j hj)
    · have q' : dn G h w := ⟨by rw [← q.1, e1, pu_k (by omega)], by rw [← q.2, e1, pu_k (by omega)]⟩
      exact hmn _ (a11 w hw hr q' j hj)
theorem MI_done {G : Gr} (hG : Good G) (hs : Sane G) {h0 h h1 h2 : Pic} {u d q t a : Nat} (I : MI G h0 h u d q) (hq : q < jt G u) (ht : Gx G u q = t) (hd : dn G h t) (ha : a = lnf (fun j => LEN G (Gx G u j)) q)
    (e1 : h1 = pu h (17 + u) 8 (nI (if a < LEN G t + 1 then LEN G t + 1 else a))) (e2 : h2 = pu h1 (17 + u) 6 (nI (q + 1))) : MI G h0 h2 u d (q + 1) ∧ (∀ w, w ≠ u → same3 h h2 w) ∧ (∀ w, w < Gn G → Reach G 0 w → dn G h w → dn G h2 w) ∧ (∀ i, h2 2 i = h 2 i) ∧ ∀ w, h2 (17 + w) 9 = h (17 + w) 9 ∧ h2 (17 + w) 10 = h (17 + w) 10 := by
  obtain ⟨a1, a2, a3, a4, a5, a6, a7, a8, a9, a10, a11⟩ := I
  have hn := hG.2.1
  have hsm : ∀ w, w ≠ u → same3 h h2 w := fun w q => ⟨by rw [e2, pu_k (by omega), e1, pu_k (by omega)], by rw [e2, pu_k (by omega), e1, pu_k (by omega)], by rw [e2, pu_k (by omega), e1, pu_k (by omega)]⟩
  have hne : ∀ w, dn G h w → w ≠ u := fun w q e => by subst e; exact absurd (q.1.symm.trans a6) (by decide)
  have hmn : ∀ w, dn G h w → dn G h2 w := fun w q => (hsm w (hne w q)).dn q
  refine ⟨⟨fun k i q1 q2 => ?_, ?_, a3, a4, hq, ?_, by rw [e2, pu_self], ?_, fun w hw hr r => ?_, fun j hj => ?_, fun w hw hr r j hj => ?_⟩, hsm, fun w _ _ r => hmn w r, fun i => by rw [e2, pu_k (by omega), e1, pu_k (by omega)], fun w => ⟨by rw [e2, pu_i (by decide), e1, pu_i (by decide)], by rw [e2, pu_i (by decide), e1, pu_i (by decide)]⟩⟩
  · rw [e2]
    unfold pu
    rw [if_neg (by omega), e1]
    unfold pu
    rw [if_neg (by omega)]
    exact a1 k i q1 q2
  · rw [e2, pu_k (by omega), e1, pu_k (by omega)]; exact a2
  · rw [e2, pu_i (by decide), e1, pu_i (by decide)]; exact a6
  · rw [e2, pu_i (by decide), e1, pu_self, ha]
    simp only [lnf, ht]
  · have e : w ≠ u := fun e => by subst e; omega
    exact (a9 w hw hr r).imp (hsm w e).dn (hsm w e).fre
  · by_cases e : j = q
    · subst e; rw [ht]; exact hmn t hd
    · exact hmn _ (a10 j (by omega))
  · have e : w ≠ u := fun e => by
      subst e
      have := r.1
      rw [e2, pu_i (by decide), e1, pu_i (by decide), a6] at this
      exact absurd this (by decide)
    have r' : dn G h w := ⟨by rw [← r.1, e2, pu_k (by omega), e1, pu_k (by omega)], by rw [← r.2, e2, pu_k (by omega), e1, pu_k (by omega)]⟩
    exact hmn _ (a11 w hw hr r' j hj)
theorem MI_push {G : Gr} (hG : Good G) (hs : Sane G) {h0 h h1 : Pic} {u d q t : Nat} (I : MI G h0 h u d q) (hq : q < jt G u) (ht : Gx G u q = t) (hd : h (17 + t) 7 = 0) (e1 : h1 = pu h 2 (d + 1) (nI t)) : MI G h0 h1 t (d + 1) 0 ∧ rk G t < rk G u := by
  obtain ⟨a1, a2, a3, a4, a5, a6, a7, a8, a9, a10, a11⟩ := I
  have e : Edge G u t := ⟨a3, q, hq, ht⟩
  have htn := e.lt hG
  have hr := a4.st e
  have hrk := rk_lt hG e (hs.2 t htn hr)
  have hst : ∀ w i, h1 (17 + w) i = h (17 + w) i := fun w i => by rw [e1, pu_k (by omega)]
  have hdn : ∀ w, dn G h1 w ↔ dn G h w := fun w => by unfold dn; rw [hst, hst]
  have hfr : fre h t := (a9 t htn hr hrk).resolve_left (fun r => by rw [r.1] at hd; exact absurd hd (by decide))
  refine ⟨⟨fun k i q1 q2 => ?_, by rw [e1, pu_self], htn, hr, Nat.zero_le _, by rw [hst]; exact hd, by rw [hst, hfr.1, nI_0], by rw [hst, hfr.2.2]; exact nI_0.symm, fun w hw hrw r => ?_, fun j hj => by omega, fun w hw hrw r j hj => (hdn _).mpr (a11 w hw hrw ((hdn w).mp r) j hj)⟩, hrk⟩
  · rw [e1, pu_k q1]; exact a1 k i q1 q2
  · refine (a9 w hw hrw (by omega)).imp (hdn w).mpr (fun r => ?_)
    unfold fre
    rw [hst, hst, hst]
    exact r
theorem MI_back {G : Gr} (hG : Good G) {h0 h h1 h2 : Pic} {u d q t : Nat} (I : MI G h0 h u d q) (e1 : h1 = pu h 2 (d + 1) (nI t)) (hrk : rk G t < rk G u) (P : MP G h0 h1 h2 t (d + 1)) : MI G h0 h2 u d q ∧ (∀ w, w < 60 → w ≠ u → rk G u ≤ rk G w → same3 h h2 w) ∧ (∀ w, w < Gn G → Reach G 0 w → dn G h w → dn G h2 w) ∧ (∀ i, i < d → h2 2 i = h 2 i) ∧ (∀ w, w < 60 → h2 (17 + w) 9 = h (17 + w) 9 ∧ h2 (17 + w) 10 = h (17 + w) 10) := by
  obtain ⟨a1, a2, a3, a4, a5, a6, a7, a8, a9, a10, a11⟩ := I
  obtain ⟨p1, p2, p3, p4, p5, p6, p7, p8⟩ := P
  have hn := hG.2.1
  have hst : ∀ w i, h1 (17 + w) i = h (17 + w) i := fun w i => by rw [e1, pu_k (by omega)]
  have hdn : ∀ w, dn G h1 w ↔ dn G h w := fun w => by unfold dn; rw [hst, hst]
  have h3 : ∀ w, w < 60 → w ≠ t → rk G t ≤ rk G w → same3 h h2 w := fun w x y z => by
    have s := p3 w x y z
    unfold same3 at s ⊢
    rw [hst, hst, hst] at s
    exact s
  have hut : u ≠ t := fun e => by subst e; omega
  have hu3 := h3 u (by omega) hut (by omega)
  have hw : ∀ i, i < d + 1 → h2 2 i = h 2 i := fun i hi => by rw [p4 i hi, e1, pu_i (by omega)]
  have hmn : ∀ w, w < Gn G → Reach G 0 w → dn G h w → dn G h2 w := fun w x y z => p6 w x y ((hdn w).mpr z)
  refine ⟨⟨p1, by rw [hw d (by omega)]; exact a2, a3, a4, a5, hu3.2.1.trans a6, hu3.1.trans a7, hu3.2.2.trans a8, fun w x y z => ?_, fun j hj => ?_, p7⟩, fun w x y z => h3 w x (fun e => by subst e; omega) (by omega), hmn, fun i hi => hw i (by omega), fun w x => ⟨(p8 w x).1.trans (hst w 9), (p8 w x).2.trans (hst w 10)⟩⟩
  · by_cases q1 : w = t
    · subst q1; exact Or.inl p2
    · by_cases q2 : rk G w < rk G t
      · exact p5 w x y q2
      · have s := h3 w (by omega) q1 (by omega)
        exact (a9 w x y z).imp s.dn s.fre
  · have e : Edge G u (Gx G u j) := edge_of a3 (by omega)
    exact hmn _ (e.lt hG) (a4.st e) (a10 j hj)
set_option maxHeartbeats 4000000 in
theorem lp_meas1 {l : Launch} {R : Room} {args : Array Value} {M : MT} {g : Gh} {Q : State → Prop} {cells slots : Nat} (C : Cx args M g "GameGraph" b_G_measure 4) {m : Nat} (hm : m ≤ 60) :
    ∀ (n j : Nat) (h : Pic), j ≤ m → m + 1 ≤ j + n → h 0 1 = nI m → (∀ h' : Pic, (∀ k i, h' k i = if 17 + j ≤ k ∧ k < 17 + m then stM h k i else h k i) → V l R args M g 4 Q cells slots h' 67 [(0, .ref (gA g 0))] []) → V l R args M g 4 Q cells slots h 2 [(0, .ref (gA g 0)), (1, .int (nI j))] [] := by
  intro n
  induction n with
  | zero => intro j h b1 b2; omega
  | succ n ih =>
    intro j h b1 b2 hc k
    refine V_iload_n C d_G_measure_2 rfl ?_
    refine V_aload_n C d_G_measure_3 rfl ?_
    refine V_getG C 1 (by decide) wf_G_15 rfl rfl d_G_measure_4 ?_
    refine V_topi (nI m) (hc) ?_
    refine V_icmp_ge C 67 d_G_measure_7 (by decide) (fun c1 => ?_) (fun c1 => ?_)
    · have e := le_ge (by omega) (by omega) c1
      have e : j = m := by omega
      subst e
      refine V_lv [(0, .ref (gA g 0))] rfl ?_
      exact k h (fun k i => by rw [if_neg (by omega)])
    · have hl := nle_lt (by omega) (by omega) c1
      refine V_aload_n C d_G_measure_10 rfl ?_
      refine V_getG C 0 (by decide) wf_G_11 rfl rfl d_G_measure_11 ?_
      refine V_iload_n C d_G_measure_14 rfl ?_
      refine V_aald C j rfl (by omega) d_G_measure_15 ?_
      refine V_iconst (v := 0) C d_G_measure_16 (by decide) ?_
      refine V_putN C j (by omega) 6 (by decide) wn_G_72 rfl rfl rfl rfl d_G_measure_17 (fun h1 eh1 => ?_)
      refine V_aload_n C d_G_measure_20 rfl ?_
      refine V_getG C 0 (by decide) wf_G_11 rfl rfl d_G_measure_21 ?_
      refine V_iload_n C d_G_measure_24 rfl ?_
      refine V_aald C j rfl (by omega) d_G_measure_25 ?_
      refine V_iconst (v := 0) C d_G_measure_26 (by decide) ?_
      refine V_putN C j (by omega) 7 (by decide) wn_G_75 rfl rfl rfl rfl d_G_measure_27 (fun h2 eh2 => ?_)
      refine V_aload_n C d_G_measure_30 rfl ?_
      refine V_getG C 0 (by decide) wf_G_11 rfl rfl d_G_measure_31 ?_
      refine V_iload_n C d_G_measure_34 rfl ?_
      refine V_aald C j rfl (by omega) d_G_measure_35 ?_
      refine V_iconst (v := 0) C d_G_measure_36 (by decide) ?_
      refine V_putN C j (by omega) 8 (by decide) wn_G_78 rfl rfl rfl rfl d_G_measure_37 (fun h3 eh3 => ?_)
      refine V_aload_n C d_G_measure_40 rfl ?_
      refine V_getG C 0 (by decide) wf_G_11 rfl rfl d_G_measure_41 ?_
      refine V_iload_n C d_G_measure_44 rfl ?_
      refine V_aald C j rfl (by omega) d_G_measure_45 ?_
      refine V_iconst (v := 0) C d_G_measure_46 (by decide) ?_
      refine V_putN C j (by omega) 9 (by decide) wn_G_81 rfl rfl rfl rfl d_G_measure_47 (fun h4 eh4 => ?_)
      refine V_aload_n C d_G_measure_50 rfl ?_
      refine V_getG C 0 (by decide) wf_G_11 rfl rfl d_G_measure_51 ?_
      refine V_iload_n C d_G_measure_54 rfl ?_
      refine V_aald C j rfl (by omega) d_G_measure_55 ?_
      refine V_bipush (v := 100) C d_G_measure_56 (by decide) ?_
      refine V_putN C j (by omega) 10 (by decide) wn_G_84 rfl rfl rfl rfl d_G_measure_58 (fun h5 eh5 => ?_)
      refine V_iinc C [(0, .ref (gA g 0)), (1, .int (nI (j + 1)))] d_G_measure_61 rfl (nI_1 _) (by decide) rfl rfl ?_
      refine V_goto C 2 d_G_measure_64 (by decide) ?_
      have e1 : ∀ K i, h5 K i = if K = 17 + j then stM h K i else h K i := fun K i => by rw [eh5, eh4, eh3, eh2, eh1]; exact stM_at
      refine ih (j + 1) h5 (by omega) (by omega) (by rw [e1, if_neg (by omega)]; exact hc) (fun h' hs => k h' (fun K i => ?_))
      have e0 := hs K i
      have e2 := e1 K i
      by_cases q : K = 17 + j
      · rw [e0, if_neg (by omega), e2, if_pos q, if_pos (by omega)]
      · rw [if_neg q] at e2
        by_cases q2 : 17 + j ≤ K ∧ K < 17 + m
        · rw [e0, if_pos (by omega), if_pos q2]; simp only [stM, e2]
        · rw [e0, if_neg (by omega), if_neg q2, e2]
set_option maxHeartbeats 4000000 in
theorem m_exit {l : Launch} {R : Room} {args : Array Value} {M : MT} {g : Gh} {Q : State → Prop} {cells slots : Nat} (C : Cx args M g "GameGraph" b_G_measure 4) {h : Pic} {u d q J : Nat} (hd : d < 60) (hu : u < 60) (hJ : J ≤ 12) (hw : h 2 d = nI u) (h6 : h (17 + u) 6 = nI q) (h3 : h (17 + u) 3 = nI J) (hqJ : q ≤ J) (hq : q = J) (k : ∀ h1 : Pic, h1 = pu h (17 + u) 7 1 → V l R args M g 4 Q cells slots h1 76 [(0, .ref (gA g 0)), (1, .int (nI d))] []) : V l R args M g 4 Q cells slots h 76 [(0, .ref (gA g 0)), (1, .int (nI (d + 1)))] [] := by
  refine V_iload_n C d_G_measure_76 rfl ?_
  refine V_if_le C 189 d_G_measure_77 (by decide) (fun c1 => ?_) (fun c1 => ?_)
  · exact absurd c1 (nI_nle (by omega) (by omega))
  · refine V_aload_n C d_G_measure_80 rfl ?_
    refine V_getG C 0 (by decide) wf_G_11 rfl rfl d_G_measure_81 ?_
    refine V_aload_n C d_G_measure_84 rfl ?_
    refine V_getG C 6 (by decide) wf_G_19 rfl rfl d_G_measure_85 ?_
    refine V_iload_n C d_G_measure_88 rfl ?_
    refine V_iconst (v := 1) C d_G_measure_89 (by decide) ?_
    refine V_isub C d_G_measure_90 ?_
    refine V_topi (nI d) (nI_pred d) ?_
    refine V_iald C 2 60 d (by decide) rfl rfl hd (by decide) d_G_measure_91 ?_
    refine V_topi (nI u) (hw) ?_
    refine V_aald C u rfl hu d_G_measure_92 ?_
    refine V_astore_n C [(0, .ref (gA g 0)), (1, .int (nI (d + 1))), (2, .ref (gA g (17 + u)))] d_G_measure_93 (by decide) rfl rfl ?_
    refine V_aload_n C d_G_measure_94 rfl ?_
    refine V_getN C u hu 6 (by decide) wn_G_72 rfl rfl d_G_measure_95 ?_
    refine V_topi (nI q) (h6) ?_
    refine V_aload_n C d_G_measure_98 rfl ?_
    refine V_getN C u hu 3 (by decide) wn_G_60 rfl rfl d_G_measure_99 ?_
    refine V_topi (nI J) (h3) ?_
    refine V_icmp_ne C 116 d_G_measure_102 (by decide) (fun c2 => ?_) (fun c2 => ?_)
    · exact absurd (by rw [hq]) c2
    · refine V_aload_n C d_G_measure_105 rfl ?_
      refine V_iconst (v := 1) C d_G_measure_106 (by decide) ?_
      refine V_putN C u hu 7 (by decide) wn_G_75 rfl rfl rfl rfl d_G_measure_107 (fun h1 eh1 => ?_)
      refine V_iinc (v := nI d) C [(0, .ref (gA g 0)), (1, .int (nI d))] d_G_measure_110 rfl (pk_m1 d) (by decide) rfl rfl ?_
      refine V_goto C 186 d_G_measure_113 (by decide) ?_
      refine V_goto C 76 d_G_measure_186 (by decide) ?_
      exact k h1 eh1
set_option maxHeartbeats 4000000 in
theorem m_done {l : Launch} {R : Room} {args : Array Value} {M : MT} {g : Gh} {Q : State → Prop} {cells slots : Nat} (C : Cx args M g "GameGraph" b_G_measure 4) {h : Pic} {u d q J : Nat} (hd : d < 60) (hu : u < 60) (hJ : J ≤ 12) (hw : h 2 d = nI u) (h6 : h (17 + u) 6 = nI q) (h3 : h (17 + u) 3 = nI J) (hqJ : q ≤ J) {t a b : Nat} (ht60 : t < 60) (ha : a < 1000) (hb : b < 1000) (hq : q < J) (hx : h (77 + u) q = nI t) (h7 : h (17 + t) 7 = 1) (hua : h (17 + u) 8 = nI a) (htb : h (17 + t) 8 = nI b) (hR : 1 ≤ R.frames ∧ 20 ≤ R.locals) (hRc : cells ≤ R.cells ∧ slots ≤ R.slots) (k : ∀ h1 h2 : Pic, h1 = pu h (17 + u) 8 (nI (if a < b + 1 then b + 1 else a)) → h2 = pu h1 (17 + u) 6 (nI (q + 1)) → V l R args M g 4 Q cells slots h2 76 [(0, .ref (gA g 0)), (1, .int (nI (d + 1)))] []) : V l R args M g 4 Q cells slots h 76 [(0, .ref (gA g 0)), (1, .int (nI (d + 1)))] [] := by
  refine V_iload_n C d_G_measure_76 rfl ?_
  refine V_if_le C 189 d_G_measure_77 (by decide) (fun c1 => ?_) (fun c1 => ?_)
  · exact absurd c1 (nI_nle (by omega) (by omega))
  · refine V_aload_n C d_G_measure_80 rfl ?_
    refine V_getG C 0 (by decide) wf_G_11 rfl rfl d_G_measure_81 ?_
    refine V_aload_n C d_G_measure_84 rfl ?_
    refine V_getG C 6 (by decide) wf_G_19 rfl rfl d_G_measure_85 ?_
    refine V_iload_n C d_G_measure_88 rfl ?_
    refine V_iconst (v := 1) C d_G_measure_89 (by decide) ?_
    refine V_isub C d_G_measure_90 ?_
    refine V_topi (nI d) (nI_pred d) ?_
    refine V_iald C 2 60 d (by decide) rfl rfl hd (by decide) d_G_measure_91 ?_
    refine V_topi (nI u) (hw) ?_
    refine V_aald C u rfl hu d_G_measure_92 ?_
    refine V_astore_n C [(0, .ref (gA g 0)), (1, .int (nI (d + 1))), (2, .ref (gA g (17 + u)))] d_G_measure_93 (by decide) rfl rfl ?_
    refine V_aload_n C d_G_measure_94 rfl ?_
    refine V_getN C u hu 6 (by decide) wn_G_72 rfl rfl d_G_measure_95 ?_
    refine V_topi (nI q) (h6) ?_
    refine V_aload_n C d_G_measure_98 rfl ?_
    refine V_getN C u hu 3 (by decide) wn_G_60 rfl rfl d_G_measure_99 ?_
    refine V_topi (nI J) (h3) ?_
    refine V_icmp_ne C 116 d_G_measure_102 (by decide) (fun c2 => ?_) (fun c2 => ?_)
    · refine V_aload_n C d_G_measure_116 rfl ?_
      refine V_getG C 0 (by decide) wf_G_11 rfl rfl d_G_measure_117 ?_
      refine V_aload_n C d_G_measure_120 rfl ?_
      refine V_getN C u hu 4 (by decide) wn_G_63 rfl rfl d_G_measure_121 ?_
      refine V_aload_n C d_G_measure_124 rfl ?_
      refine V_getN C u hu 6 (by decide) wn_G_72 rfl rfl d_G_measure_125 ?_
      refine V_topi (nI q) (h6) ?_
      refine V_iald C (77 + u) 12 q (by omega) cel_nx rfl (by omega) (by decide) d_G_measure_128 ?_
      refine V_topi (nI t) (hx) ?_
      refine V_aald C t rfl ht60 d_G_measure_129 ?_
      refine V_astore_n C [(0, .ref (gA g 0)), (1, .int (nI (d + 1))), (2, .ref (gA g (17 + u))), (3, .ref (gA g (17 + t)))] d_G_measure_130 (by decide) rfl rfl ?_
      refine V_aload_n C d_G_measure_131 rfl ?_
      refine V_getN C t ht60 7 (by decide) wn_G_75 rfl rfl d_G_measure_132 ?_
      refine V_if_eq C 168 d_G_measure_135 (by decide) (fun c3 => ?_) (fun c3 => ?_)
      · rw [h7] at c3
        exact absurd c3 (by decide)
      · refine V_aload_n C d_G_measure_138 rfl ?_
        refine V_aload_n C d_G_measure_139 rfl ?_
        refine V_getN C u hu 8 (by decide) wn_G_78 rfl rfl d_G_measure_140 ?_
        refine V_topi (nI a) (hua) ?_
        refine V_aload_n C d_G_measure_143 rfl ?_
        refine V_getN C t ht60 8 (by decide) wn_G_78 rfl rfl d_G_measure_144 ?_
        refine V_topi (nI b) (htb) ?_
        refine V_iconst (v := 1) C d_G_measure_147 (by decide) ?_
        refine V_iadd C d_G_measure_148 ?_
        refine V_topi (nI (b + 1)) (nI_1 b) ?_
        refine V_mmax C ⟨hR.1, Nat.le_trans (Nat.le_of_ble_eq_true rfl) hR.2⟩ hRc d_G_measure_149 ?_
        refine V_topi (nI (if a < b + 1 then b + 1 else a)) (by by_cases q : a < b + 1; (rw [if_pos q, if_pos (nI_lt q (by omega))]); (rw [if_neg q, if_neg (nI_nlt (by omega) (by omega))])) ?_
        refine V_putN C u hu 8 (by decide) wn_G_78 rfl rfl rfl rfl d_G_measure_152 (fun h1 eh1 => ?_)
        refine V_aload_n C d_G_measure_155 rfl ?_
        refine V_dup C d_G_measure_156 rfl ?_
        refine V_getN C u hu 6 (by decide) wn_G_72 rfl rfl d_G_measure_157 ?_
        refine V_iconst (v := 1) C d_G_measure_160 (by decide) ?_
        refine V_iadd C d_G_measure_161 ?_
        refine V_topi (nI (q + 1)) (by rw [eh1, pu_i (by decide), h6]; exact nI_1 q) ?_
        refine V_putN C u hu 6 (by decide) wn_G_72 rfl rfl rfl rfl d_G_measure_162 (fun h2 eh2 => ?_)
        refine V_goto C 186 d_G_measure_165 (by decide) ?_
        refine V_goto C 76 d_G_measure_186 (by decide) ?_
        refine V_lv [(0, .ref (gA g 0)), (1, .int (nI (d + 1)))] rfl ?_
        exact k h1 h2 eh1 eh2
    · exact absurd ((nI_eq (by omega) (by omega)).mp c2) (by omega)
set_option maxHeartbeats 4000000 in
theorem m_push {l : Launch} {R : Room} {args : Array Value} {M : MT} {g : Gh} {Q : State → Prop} {cells slots : Nat} (C : Cx args M g "GameGraph" b_G_measure 4) {h : Pic} {u d q J : Nat} (hd : d < 60) (hu : u < 60) (hJ : J ≤ 12) (hw : h 2 d = nI u) (h6 : h (17 + u) 6 = nI q) (h3 : h (17 + u) 3 = nI J) (hqJ : q ≤ J) {t : Nat} (ht60 : t < 60) (hd1 : d + 1 < 60) (hq : q < J) (hx : h (77 + u) q = nI t) (h7 : h (17 + t) 7 = 0) (k : ∀ h1 : Pic, h1 = pu h 2 (d + 1) (nI t) → V l R args M g 4 Q cells slots h1 76 [(0, .ref (gA g 0)), (1, .int (nI (d + 1 + 1)))] []) : V l R args M g 4 Q cells slots h 76 [(0, .ref (gA g 0)), (1, .int (nI (d + 1)))] [] := by
  refine V_iload_n C d_G_measure_76 rfl ?_
  refine V_if_le C 189 d_G_measure_77 (by decide) (fun c1 => ?_) (fun c1 => ?_)
  · exact absurd c1 (nI_nle (by omega) (by omega))
  · refine V_aload_n C d_G_measure_80 rfl ?_
    refine V_getG C 0 (by decide) wf_G_11 rfl rfl d_G_measure_81 ?_
    refine V_aload_n C d_G_measure_84 rfl ?_
    refine V_getG C 6 (by decide) wf_G_19 rfl rfl d_G_measure_85 ?_
    refine V_iload_n C d_G_measure_88 rfl ?_
    refine V_iconst (v := 1) C d_G_measure_89 (by decide) ?_
    refine V_isub C d_G_measure_90 ?_
    refine V_topi (nI d) (nI_pred d) ?_
    refine V_iald C 2 60 d (by decide) rfl rfl hd (by decide) d_G_measure_91 ?_
    refine V_topi (nI u) (hw) ?_
    refine V_aald C u rfl hu d_G_measure_92 ?_
    refine V_astore_n C [(0, .ref (gA g 0)), (1, .int (nI (d + 1))), (2, .ref (gA g (17 + u)))] d_G_measure_93 (by decide) rfl rfl ?_
    refine V_aload_n C d_G_measure_94 rfl ?_
    refine V_getN C u hu 6 (by decide) wn_G_72 rfl rfl d_G_measure_95 ?_
    refine V_topi (nI q) (h6) ?_
    refine V_aload_n C d_G_measure_98 rfl ?_
    refine V_getN C u hu 3 (by decide) wn_G_60 rfl rfl d_G_measure_99 ?_
    refine V_topi (nI J) (h3) ?_
    refine V_icmp_ne C 116 d_G_measure_102 (by decide) (fun c2 => ?_) (fun c2 => ?_)
    · refine V_aload_n C d_G_measure_116 rfl ?_
      refine V_getG C 0 (by decide) wf_G_11 rfl rfl d_G_measure_117 ?_
      refine V_aload_n C d_G_measure_120 rfl ?_
      refine V_getN C u hu 4 (by decide) wn_G_63 rfl rfl d_G_measure_121 ?_
      refine V_aload_n C d_G_measure_124 rfl ?_
      refine V_getN C u hu 6 (by decide) wn_G_72 rfl rfl d_G_measure_125 ?_
      refine V_topi (nI q) (h6) ?_
      refine V_iald C (77 + u) 12 q (by omega) cel_nx rfl (by omega) (by decide) d_G_measure_128 ?_
      refine V_topi (nI t) (hx) ?_
      refine V_aald C t rfl ht60 d_G_measure_129 ?_
      refine V_astore_n C [(0, .ref (gA g 0)), (1, .int (nI (d + 1))), (2, .ref (gA g (17 + u))), (3, .ref (gA g (17 + t)))] d_G_measure_130 (by decide) rfl rfl ?_
      refine V_aload_n C d_G_measure_131 rfl ?_
      refine V_getN C t ht60 7 (by decide) wn_G_75 rfl rfl d_G_measure_132 ?_
      refine V_if_eq C 168 d_G_measure_135 (by decide) (fun c3 => ?_) (fun c3 => ?_)
      · refine V_aload_n C d_G_measure_168 rfl ?_
        refine V_getG C 6 (by decide) wf_G_19 rfl rfl d_G_measure_169 ?_
        refine V_iload_n C d_G_measure_172 rfl ?_
        refine V_aload_n C d_G_measure_173 rfl ?_
        refine V_getN C u hu 4 (by decide) wn_G_63 rfl rfl d_G_measure_174 ?_
        refine V_aload_n C d_G_measure_177 rfl ?_
        refine V_getN C u hu 6 (by decide) wn_G_72 rfl rfl d_G_measure_178 ?_
        refine V_topi (nI q) (h6) ?_
        refine V_iald C (77 + u) 12 q (by omega) cel_nx rfl (by omega) (by decide) d_G_measure_181 ?_
        refine V_topi (nI t) (hx) ?_
        refine V_iast C 2 60 (d + 1) (by decide) (fun _ => rfl) rfl hd1 (by decide) d_G_measure_182 (fun h1 eh1 => ?_)
        refine V_iinc (v := nI (d + 1 + 1)) C [(0, .ref (gA g 0)), (1, .int (nI (d + 1 + 1)))] d_G_measure_183 rfl (nI_1 (d + 1)) (by decide) rfl rfl ?_
        refine V_goto C 76 d_G_measure_186 (by decide) ?_
        exact k h1 eh1
      · exact absurd h7 c3
    · exact absurd ((nI_eq (by omega) (by omega)).mp c2) (by omega)
set_option maxHeartbeats 4000000 in
/-- the visit of u: by its rank, and by how many of its moves are left -/
theorem visit {l : Launch} {R : Room} {args : Array Value} {M : MT} {g : Gh} {Q : State → Prop} {cells slots : Nat} (C : Cx args M g "GameGraph" b_G_measure 4) {G : Gr} (hG : Good G) (hs : Sane G) {h0 : Pic} (hC0 : RepC G h0) (hR : 1 ≤ R.frames ∧ 20 ≤ R.locals) (hRc : cells ≤ R.cells ∧ slots ≤ R.slots) :
    ∀ (r n u d q : Nat) (h : Pic), rk G u < r → jt G u + 1 ≤ q + n → d + 1 + rk G u ≤ 60 → MI G h0 h u d q → (∀ h' : Pic, MP G h0 h h' u d → V l R args M g 4 Q cells slots h' 76 [(0, .ref (gA g 0)), (1, .int (nI d))] []) → V l R args M g 4 Q cells slots h 76 [(0, .ref (gA g 0)), (1, .int (nI (d + 1)))] [] := by
  intro r
  induction r with
  | zero => intro n u d q h hr; omega
  | succ r ihr =>
    intro n
    induction n with
    | zero => intro u d q h hr hn hd I; have := I.2.2.2.2.1; omega
    | succ n ihn =>
      intro u d q h hr hn hd I k
      have hn60 := hG.2.1
      have hu := I.2.2.1
      have hur := I.2.2.2.1
      have hq := I.2.2.2.2.1
      have h6 := I.2.2.2.2.2.2.1
      have hC : RepC G h := I.1.repC hC0 hn60
      obtain ⟨-, -, -, e3, e4⟩ := hC.2 u hu
      have hJ := jt_le hG hu
      by_cases hqe : q = jt G u
      · subst hqe
        exact m_exit C (by omega) (by omega) hJ I.2.1 h6 e3 (Nat.le_refl _) rfl (fun h1 e1 => k h1 (MP_exit hG hs I e1))
      · have hql : q < jt G u := by omega
        obtain ⟨t, ht⟩ : ∃ t, Gx G u q = t := ⟨_, rfl⟩
        have e : Edge G u t := ⟨hu, q, hql, ht⟩
        have htn := e.lt hG
        have htr := hur.st e
        have hrk := rk_lt hG e (hs.2 t htn htr)
        have hLt := LEN_lt hG hs htn htr
        have ha : ∃ a, a = lnf (fun j => LEN G (Gx G u j)) q := ⟨_, rfl⟩
        obtain ⟨a, ha⟩ := ha
        have ha60 : a ≤ 60 := by
          rw [ha]
          refine lnf_le (fun j hj => ?_)
          have ej := edge_of hu (show j < jt G u by omega)
          exact LEN_lt hG hs (ej.lt hG) (hur.st ej)
        -- what is done once t is done
        have fin : ∀ hh : Pic, MI G h0 hh u d q → dn G hh t → (∀ w, w < 60 → w ≠ u → rk G u ≤ rk G w → same3 h hh w) → (∀ w, w < Gn G → Reach G 0 w → dn G h w → dn G hh w) → (∀ i, i < d → hh 2 i = h 2 i) → (∀ w, w < 60 → hh (17 + w) 9 = h (17 + w) 9 ∧ hh (17 + w) 10 = h (17 + w) 10) → V l R args M g 4 Q cells slots hh 76 [(0, .ref (gA g 0)), (1, .int (nI (d + 1)))] [] := by
          intro hh I2 hdt s3 smn sw slh
          have hC2 : RepC G hh := I2.1.repC hC0 hn60
          obtain ⟨-, -, -, e3', e4'⟩ := hC2.2 u hu
          refine m_done C (J := jt G u) (t := t) (a := a) (b := LEN G t) (by omega) (by omega) hJ I2.2.1 I2.2.2.2.2.2.2.1 e3' hq (by omega) (by omega) (by omega) hql (by rw [e4' q hql, ht]) hdt.1 (by rw [ha]; exact I2.2.2.2.2.2.2.2.1) hdt.2 hR hRc (fun h1 h2 e1 e2 => ?_)
          obtain ⟨I3, t3, tmn, tw, tlh⟩ := MI_done hG hs I2 hql ht hdt ha e1 e2
          refine ihn u d (q + 1) h2 hr (by omega) hd I3 (fun h' P => k h' ?_)
          obtain ⟨p1, p2, p3, p4, p5, p6, p7, p8⟩ := P
          exact ⟨p1, p2, fun w x y z => ((s3 w x y z).tr (t3 w y)).tr (p3 w x y z), fun i hi => by rw [p4 i hi, tw i, sw i hi], p5, fun w x y z => p6 w x y (tmn w x y (smn w x y z)), p7, fun w x => ⟨by rw [(p8 w x).1, (tlh w).1, (slh w x).1], by rw [(p8 w x).2, (tlh w).2, (slh w x).2]⟩⟩
        rcases I.2.2.2.2.2.2.2.2.1 t htn htr hrk with hdt | hft
        · exact fin h I hdt (fun w _ _ _ => ⟨rfl, rfl, rfl⟩) (fun w _ _ z => z) (fun i _ => rfl) (fun w _ => ⟨rfl, rfl⟩)
        · refine m_push C (J := jt G u) (t := t) (by omega) (by omega) hJ I.2.1 h6 e3 hq (by omega) (by omega) hql (by rw [e4 q hql, ht]) hft.2.1 (fun h1 e1 => ?_)
          obtain ⟨I2, -⟩ := MI_push hG hs I hql ht hft.2.1 e1
          refine ihr (jt G t + 1) t (d + 1) 0 h1 (by omega) (by omega) (by omega) I2 (fun h2 P => ?_)
          obtain ⟨I3, s3, smn, sw, slh⟩ := MI_back hG I e1 hrk P
          exact fin h2 I3 P.2.1 s3 smn sw slh
theorem MI_init {G : Gr} (hG : Good G) {h h1 h2 : Pic} (e1 : ∀ k i, h1 k i = if 17 + 0 ≤ k ∧ k < 17 + Gn G then stM h k i else h k i) (e2 : h2 = pu h1 2 0 0) : MI G h h2 0 0 0 ∧ ∀ w, w < Gn G → h2 (17 + w) 9 = 0 ∧ h2 (17 + w) 10 = 100 := by
  have hn := hG.2.1
  have h1n := hG.1
  have hst : ∀ w i, w < Gn G → h2 (17 + w) i = stM h (17 + w) i := fun w i hw => by rw [e2, pu_k (by omega), e1, if_pos (by omega)]
  have hfr : ∀ w, w < Gn G → fre h2 w := fun w hw => ⟨by rw [hst w 6 hw]; rfl, by rw [hst w 7 hw]; rfl, by rw [hst w 8 hw]; rfl⟩
  refine ⟨⟨fun k i q1 q2 => ?_, by rw [e2, pu_self, nI_0], by omega, Reach.rf, Nat.zero_le _, (hfr 0 (by omega)).2.1, by rw [(hfr 0 (by omega)).1, nI_0], by rw [(hfr 0 (by omega)).2.2]; exact nI_0.symm, fun w hw _ _ => Or.inr (hfr w hw), fun j hj => by omega, fun w hw _ r => ?_⟩, fun w hw => ⟨by rw [hst w 9 hw]; rfl, by rw [hst w 10 hw]; rfl⟩⟩
  · rw [e2, pu_k q1, e1]
    by_cases q : 17 + 0 ≤ k ∧ k < 17 + Gn G
    · rw [if_pos q]
      unfold stM
      rw [if_neg (by omega), if_neg (by omega), if_neg (by omega), if_neg (by omega), if_neg (by omega)]
    · rw [if_neg q]
  · exact absurd (r.1.symm.trans (hfr w hw).2.1) (by decide)
set_option maxHeartbeats 4000000 in
theorem c_G_measure {l : Launch} {g : Gh} (E : gOk g ∧ l.stackTraces = false) (G : Gr) (h : Pic) (hG : Good G) (hs : Sane G) (hC : RepC G h) : Ct l g y_G_measure k_G_measure (RM 2 0 0) [.ref (gA g 0)] h (fun r h' => r = none ∧ FrM h h' ∧ (∀ w, w < Gn G → Reach G 0 w → h' (17 + w) 8 = nI (LEN G w)) ∧ ∀ w, w < Gn G → h' (17 + w) 9 = 0 ∧ h' (17 + w) 10 = 100) (fun _ _ => False) := by
  refine Ct_of E.1 E.2 (by decide) (Nat.le_of_ble_eq_true rfl) (fun M C hr hx => ?_)
  have C : Cx _ M g "GameGraph" b_G_measure 4 := C
  refine V_lv [(0, .ref (gA g 0))] rfl ?_
  refine V_iconst (v := 0) C d_G_measure_0 (by decide) ?_
  refine V_istore_n C [(0, .ref (gA g 0)), (1, .int 0)] d_G_measure_1 (by decide) rfl rfl ?_
  refine V_lv [(0, .ref (gA g 0)), (1, .int (nI 0))] rfl ?_
  refine lp_meas1 C hG.2.1 (Gn G + 1) 0 h (by omega) (by omega) hC.1 (fun h1 hs1 => ?_)
  refine V_iconst (v := 1) C d_G_measure_67 (by decide) ?_
  refine V_istore_n C [(0, .ref (gA g 0)), (1, .int 1)] d_G_measure_68 (by decide) rfl rfl ?_
  refine V_aload_n C d_G_measure_69 rfl ?_
  refine V_getG C 6 (by decide) wf_G_19 rfl rfl d_G_measure_70 ?_
  refine V_iconst (v := 0) C d_G_measure_73 (by decide) ?_
  refine V_iconst (v := 0) C d_G_measure_74 (by decide) ?_
  refine V_iast C 2 60 0 (by decide) (fun _ => rfl) rfl (by decide) (by decide) d_G_measure_75 (fun h2 eh2 => ?_)
  refine V_lv [(0, .ref (gA g 0)), (1, .int (nI (0 + 1)))] rfl ?_
  obtain ⟨hI, hlh⟩ := MI_init hG hs1 eh2
  have hrk0 := rk_bd hI.2.2.1 (hs.2 0 hI.2.2.1 Reach.rf)
  have hn60 := hG.2.1
  refine visit C hG hs hC ⟨by decide, by decide⟩ ⟨by decide, by decide⟩ (rk G 0 + 1) (jt G 0 + 1) 0 0 0 h2 (by omega) (by omega) (by omega) hI (fun h' P => ?_)
  obtain ⟨p1, p2, p3, p4, p5, p6, p7, p8⟩ := P
  refine V_iload_n C d_G_measure_76 rfl ?_
  refine V_if_le C 189 d_G_measure_77 (by decide) (fun c1 => ?_) (fun c1 => ?_)
  · refine V_vret C hr d_G_measure_189 ⟨rfl, p1, fun w hw hr => ?_, fun w hw => ?_⟩
    · have := hr (fun x => Reach G 0 x ∧ x < Gn G ∧ dn G h' x) ⟨Reach.rf, hI.2.2.1, p2⟩ (fun x y ⟨q1, q2, q3⟩ e => ?_)
      · exact this.2.2.2
      · obtain ⟨-, j, hj, rfl⟩ := id e
        exact ⟨q1.st e, e.lt hG, p7 x q2 q1 q3 j hj⟩
    · exact ⟨(p8 w (by omega)).1.trans (hlh w hw).1, (p8 w (by omega)).2.trans (hlh w hw).2⟩
  · exact absurd (by rw [nI_0]; decide) c1
end
section
-- ===== printed by gen/w6.py: look, reached, defect, findReached =====
theorem bst_mem {m : Bool} {w : Nat → Int32} : ∀ {k : Nat}, 0 < k → ∃ j, j < k ∧ bst m w k = w j := by
  intro k
  induction k with
  | zero => intro h; omega
  | succ k ih =>
    intro _
    cases k with
    | zero => exact ⟨0, by omega, rfl⟩
    | succ k =>
      obtain ⟨j, h1, h2⟩ := ih (by omega)
      simp only [bst]
      repeat' split
      · exact ⟨k + 1, by omega, rfl⟩
      · exact ⟨j, by omega, h2⟩
      · exact ⟨k + 1, by omega, rfl⟩
      · exact ⟨j, by omega, h2⟩
theorem end_range {a b : Int32} (h : okEnd a b) (h1 : ¬ (a < 0 ∨ b < 0)) (h2 : a + b = 100) : 0 ≤ a ∧ a ≤ 100 := by
  refine ⟨Int32.not_lt.mp fun q => h1 (Or.inl q), h.2.1⟩
theorem VAL_range {G : Gr} (hG : Good G) (hs : Sane G) : ∀ (r u : Nat), rk G u < r → u < Gn G → Reach G 0 u → 0 ≤ VAL G u ∧ VAL G u ≤ 100 := by
  intro r
  induction r with
  | zero => intro u h; omega
  | succ r ih =>
    intro u hr hu hre
    rw [VAL_eq hG hs hu hre]
    have ho := hs.1 u hu hre
    unfold own at ho
    unfold FV
    by_cases q : Gop G u = true
    · rw [if_pos q] at ho ⊢
      by_cases q2 : jt G u = 0
      · rw [if_pos q2] at ho
        exact absurd ho (by decide)
      · obtain ⟨j, hj, e⟩ := bst_mem (m := decide (1 < Ga G u)) (w := fun j => VAL G (Gx G u j)) (k := jt G u) (by omega)
        rw [e]
        have ej := edge_of hu hj
        have hrk := rk_lt hG ej (hs.2 _ (ej.lt hG) (hre.st ej))
        exact ih _ (by omega) (ej.lt hG) (hre.st ej)
    · rw [if_neg q] at ho ⊢
      have hok := hG.2.2.2.1 u hu (by simpa using q)
      by_cases q2 : Ga G u < 0 ∨ Gb G u < 0
      · rw [if_pos q2] at ho
        exact absurd ho (by decide)
      · rw [if_neg q2] at ho
        by_cases q3 : Ga G u + Gb G u = 100
        · exact end_range hok q2 q3
        · rw [if_pos q3] at ho
          exact absurd ho (by decide)
def BO (G : Gr) (h : Pic) (w : Nat) : Prop := 0 ≤ h (17 + w) 9 ∧ h (17 + w) 9 ≤ VAL G w ∧ VAL G w ≤ h (17 + w) 10 ∧ h (17 + w) 10 ≤ 100
/-- what is found of the graph by reach() -/
def KF (G : Gr) (h : Pic) : Prop := RepC G h ∧ (∀ v, v < Gn G → (flg h v ↔ Reach G 0 v)) ∧ (∀ v, v < Gn G → h (17 + v) 5 = 0 ∨ h (17 + v) 5 = 1) ∧ h 0 3 = nI (cnt (Reach G 0) (Gn G))
/-- all that is known when isKnown -/
def KnC (G : Gr) (h : Pic) : Prop := KF G h ∧ Def G (h 0 4) (h 0 5) ∧ (Sane G → ∀ w, w < Gn G → Reach G 0 w → h (17 + w) 8 = nI (LEN G w) ∧ BO G h w)
def InvC (G : Gr) (h : Pic) : Prop := RepC G h ∧ (h 0 2 = 0 ∨ h 0 2 = 1) ∧ (h 0 2 = 1 → KnC G h)
def FrL (h h' : Pic) : Prop := ∀ k i, k ≠ 2 → k ≠ 3 → ¬ (k = 0 ∧ (i = 4 ∨ i = 5)) → h' k i = h k i
theorem FrL.tr {h h1 h2 : Pic} (a : FrL h h1) (b : FrL h1 h2) : FrL h h2 := fun k i x y z => (b k i x y z).trans (a k i x y z)
theorem FrB.frL {h h' : Pic} (f : FrB h h') : FrL h h' := fun k i x y _ => f k i x y
theorem FrL.sameM {h h' : Pic} (f : FrL h h') : SameM h h' := fun k h1 h2 => funext fun i => f k i (by omega) (by omega) (by omega)
theorem KF.fr {G : Gr} {h h' : Pic} (hn : Gn G ≤ 60) (k : KF G h) (f : FrL h h') : KF G h' := by
  obtain ⟨a, b, c, d⟩ := k
  have e : ∀ v i, h' (17 + v) i = h (17 + v) i := fun v i => f _ _ (by omega) (by omega) (by omega)
  refine ⟨a.fr hn (f 0 1 (by omega) (by omega) (by omega)) (fun u i _ _ => e u i) (fun u i _ => f _ _ (by omega) (by omega) (by omega)), fun v hv => ?_, fun v hv => by rw [e]; exact c v hv, by rw [f 0 3 (by omega) (by omega) (by omega)]; exact d⟩
  unfold flg
  rw [e]
  exact b v hv
theorem fr45 {h h1 h2 : Pic} {x y : Int32} (e1 : h1 = pu h 0 4 x) (e2 : h2 = pu h1 0 5 y) : FrL h h2 := fun k i _ _ q => by
  rw [e2, e1]
  unfold pu
  rw [if_neg (by omega), if_neg (by omega)]
theorem own_eq {G : Gr} {h : Pic} (hC : RepC G h) {u : Nat} (hG : Good G) (hu : u < Gn G) : (if h (17 + u) 0 ≠ 0 then (if h (17 + u) 1 < 0 ∨ h (17 + u) 2 < 0 then 4 else if h (17 + u) 1 + h (17 + u) 2 ≠ 100 then 5 else 0) else if h (17 + u) 3 = 0 then 2 else if 1 < h (17 + u) 1 ∧ 1 < h (17 + u) 2 then 3 else 0) = own G u := by
  obtain ⟨d0, d1, d2, d3, -⟩ := hC.2 u hu
  have hj := jt_le hG hu
  have hz : nI (jt G u) = 0 ↔ jt G u = 0 := by
    rw [show (0 : Int32) = nI 0 from nI_0.symm, nI_eq (by omega) (by omega)]
  rw [d0, d1, d2, d3]
  unfold own
  by_cases q : Gop G u = true
  · rw [if_pos q, if_pos q, if_neg (by decide)]
    by_cases q2 : jt G u = 0
    · rw [if_pos (hz.mpr q2), if_pos q2]
    · rw [if_neg (fun z => q2 (hz.mp z)), if_neg q2]
  · rw [if_neg q, if_neg q, if_pos (by decide)]
def D1 (G : Gr) (h : Pic) : Prop := ∃ u, u < Gn G ∧ Reach G 0 u ∧ own G u ≠ 0 ∧ (∀ v, v < u → Reach G 0 v → own G v = 0) ∧ h 0 4 = own G u ∧ h 0 5 = nI u
def D2 (G : Gr) (h : Pic) : Prop := ∃ u, u < Gn G ∧ Reach G 0 u ∧ Cyc G u ∧ (∀ v, v < u → Reach G 0 v → ¬ Cyc G v) ∧ h 0 4 = 6 ∧ h 0 5 = nI u
def LA (G : Gr) (h : Pic) (j : Nat) : Prop := (h 0 4 = 0 ∧ h 0 5 = -1 ∧ ∀ v, v < j → Reach G 0 v → own G v = 0) ∨ D1 G h
def LB (G : Gr) (h : Pic) (j : Nat) : Prop := D1 G h ∨ ((∀ v, v < Gn G → Reach G 0 v → own G v = 0) ∧ ((h 0 4 = 0 ∧ h 0 5 = -1 ∧ ∀ v, v < j → Reach G 0 v → ¬ Cyc G v) ∨ D2 G h))
theorem D1.ne {G : Gr} {h : Pic} (d : D1 G h) : h 0 4 ≠ 0 := by
  obtain ⟨u, _, _, a, _, e, _⟩ := d
  rw [e]; exact a
theorem D2.ne {G : Gr} {h : Pic} (d : D2 G h) : h 0 4 ≠ 0 := by
  obtain ⟨u, _, _, _, _, e, _⟩ := d
  rw [e]; decide
theorem LA_exit {G : Gr} {h : Pic} {j : Nat} (a : LA G h j) (hx : j = Gn G ∨ h 0 4 ≠ 0) : LB G h 0 := by
  rcases a with ⟨a1, a2, a3⟩ | a
  · rcases hx with q | q
    · exact Or.inr ⟨by rw [← q]; exact a3, Or.inl ⟨a1, a2, fun v hv => by omega⟩⟩
    · exact absurd a1 q
  · exact Or.inl a
theorem LB_exit {G : Gr} {h : Pic} {j : Nat} (a : LB G h j) (hx : j = Gn G ∨ h 0 4 ≠ 0) : Def G (h 0 4) (h 0 5) := by
  rcases a with ⟨u, a1, a2, a3, a4, a5, a6⟩ | ⟨b, ⟨a1, a2, a3⟩ | ⟨u, a1, a2, a3, a4, a5, a6⟩⟩
  · exact Or.inl ⟨u, a1, a2, a3, a4, a5, a6⟩
  · rcases hx with q | q
    · exact Or.inr (Or.inr ⟨b, by rw [← q]; exact a3, a1, a2⟩)
    · exact absurd a1 q
  · exact Or.inr (Or.inl ⟨b, u, a1, a2, a3, a4, a5, a6⟩)
theorem LA_step {G : Gr} {h h1 h2 : Pic} {j : Nat} {x : Int32} (a : LA G h j) (h0 : h 0 4 = 0) (hj : j < Gn G) (hx : (x = 0 ∧ (Reach G 0 j → own G j = 0)) ∨ (Reach G 0 j ∧ x = own G j)) (e1 : h1 = pu h 0 4 x) (e2 : h2 = pu h1 0 5 (if x = 0 then -1 else nI j)) : LA G h2 (j + 1) := by
  have e4 : h2 0 4 = x := by rw [e2, pu_i (by decide), e1, pu_self]
  have e5 : h2 0 5 = if x = 0 then -1 else nI j := by rw [e2, pu_self]
  have a3 : ∀ v, v < j → Reach G 0 v → own G v = 0 := by
    rcases a with ⟨_, _, a3⟩ | a
    · exact a3
    · exact absurd h0 a.ne
  by_cases q : x = 0
  · refine Or.inl ⟨by rw [e4, q], by rw [e5, if_pos q], fun v hv hr => ?_⟩
    by_cases qv : v = j
    · subst qv
      rcases hx with ⟨_, r⟩ | ⟨_, r⟩
      · exact r hr
      · rw [← r]; exact q
    · exact a3 v (by omega) hr
  · rcases hx with ⟨r, _⟩ | ⟨r1, r2⟩
    · exact absurd r q
    · exact Or.inr ⟨j, hj, r1, by rw [← r2]; exact q, a3, by rw [e4]; exact r2, by rw [e5, if_neg q]⟩
theorem LB_step {G : Gr} {h h1 h2 : Pic} {j : Nat} {x : Int32} (a : LB G h j) (h0 : h 0 4 = 0) (hj : j < Gn G) (hx : (x = 0 ∧ (Reach G 0 j → ¬ Cyc G j)) ∨ (Reach G 0 j ∧ Cyc G j ∧ x = 6)) (e1 : h1 = pu h 0 4 x) (e2 : h2 = pu h1 0 5 (if x = 0 then -1 else nI j)) : LB G h2 (j + 1) := by
  have e4 : h2 0 4 = x := by rw [e2, pu_i (by decide), e1, pu_self]
  have e5 : h2 0 5 = if x = 0 then -1 else nI j := by rw [e2, pu_self]
  rcases a with a | ⟨b, ⟨_, _, a3⟩ | a⟩
  · exact absurd h0 a.ne
  · refine Or.inr ⟨b, ?_⟩
    rcases hx with ⟨r1, r2⟩ | ⟨r1, r2, r3⟩
    · refine Or.inl ⟨by rw [e4, r1], by rw [e5, if_pos r1], fun v hv hr => ?_⟩
      by_cases qv : v = j
      · subst qv; exact r2 hr
      · exact a3 v (by omega) hr
    · exact Or.inr ⟨j, hj, r1, r2, a3, by rw [e4, r3], by rw [e5, r3]; rfl⟩
  · exact absurd h0 a.ne
theorem LA.fr {G : Gr} {h h' : Pic} {j : Nat} (a : LA G h j) (e4 : h' 0 4 = h 0 4) (e5 : h' 0 5 = h 0 5) : LA G h' j := by
  unfold LA D1 at a ⊢
  rw [e4, e5]; exact a
theorem LB.fr {G : Gr} {h h' : Pic} {j : Nat} (a : LB G h j) (e4 : h' 0 4 = h 0 4) (e5 : h' 0 5 = h 0 5) : LB G h' j := by
  unfold LB D1 D2 at a ⊢
  rw [e4, e5]; exact a
set_option maxHeartbeats 4000000 in
theorem lk_tailA {l : Launch} {R : Room} {args : Array Value} {M : MT} {g : Gh} {Q : State → Prop} {cells slots : Nat} (C : Cx args M g "GameGraph" b_G_look 2) {h : Pic} {j : Nat} {x : Int32} (k : ∀ h1 h2 : Pic, h1 = pu h 0 4 x → h2 = pu h1 0 5 (if x = 0 then -1 else nI j) → V l R args M g 2 Q cells slots h2 24 [(0, .ref (gA g 0)), (1, .int (nI (j + 1)))] []) : V l R args M g 2 Q cells slots h 65 [(0, .ref (gA g 0)), (1, .int (nI j))] [.int x, .ref (gA g 0)] := by
  refine V_putG C 4 (by decide) wf_G_96 rfl rfl rfl rfl d_G_look_65 (fun h1 eh1 => ?_)
  refine V_aload_n C d_G_look_68 rfl ?_
  refine V_aload_n C d_G_look_69 rfl ?_
  refine V_getG C 4 (by decide) wf_G_96 rfl rfl d_G_look_70 ?_
  refine V_topi (x) (by rw [eh1, pu_self]) ?_
  refine V_if_ne C 80 d_G_look_73 (by decide) (fun c1 => ?_) (fun c1 => ?_)
  · refine V_iload_n C d_G_look_80 rfl ?_
    refine V_putG C 5 (by decide) wf_G_99 rfl rfl rfl rfl d_G_look_81 (fun h2 eh2 => ?_)
    refine V_iinc C [(0, .ref (gA g 0)), (1, .int (nI (j + 1)))] d_G_look_84 rfl (nI_1 _) (by decide) rfl rfl ?_
    refine V_goto C 24 d_G_look_87 (by decide) ?_
    exact k h1 h2 eh1 (by rw [eh2, if_neg c1])
  · refine V_iconst (v := (-1)) C d_G_look_76 (by decide) ?_
    refine V_goto C 81 d_G_look_77 (by decide) ?_
    refine V_putG C 5 (by decide) wf_G_99 rfl rfl rfl rfl d_G_look_81 (fun h2 eh2 => ?_)
    refine V_iinc C [(0, .ref (gA g 0)), (1, .int (nI (j + 1)))] d_G_look_84 rfl (nI_1 _) (by decide) rfl rfl ?_
    refine V_goto C 24 d_G_look_87 (by decide) ?_
    exact k h1 h2 eh1 (by rw [eh2, if_pos c1])
set_option maxHeartbeats 4000000 in
theorem lk_tailB {l : Launch} {R : Room} {args : Array Value} {M : MT} {g : Gh} {Q : State → Prop} {cells slots : Nat} (C : Cx args M g "GameGraph" b_G_look 2) {h : Pic} {j : Nat} {x : Int32} (k : ∀ h1 h2 : Pic, h1 = pu h 0 4 x → h2 = pu h1 0 5 (if x = 0 then -1 else nI j) → V l R args M g 2 Q cells slots h2 92 [(0, .ref (gA g 0)), (1, .int (nI (j + 1)))] []) : V l R args M g 2 Q cells slots h 134 [(0, .ref (gA g 0)), (1, .int (nI j))] [.int x, .ref (gA g 0)] := by
  refine V_putG C 4 (by decide) wf_G_96 rfl rfl rfl rfl d_G_look_134 (fun h1 eh1 => ?_)
  refine V_aload_n C d_G_look_137 rfl ?_
  refine V_aload_n C d_G_look_138 rfl ?_
  refine V_getG C 4 (by decide) wf_G_96 rfl rfl d_G_look_139 ?_
  refine V_topi (x) (by rw [eh1, pu_self]) ?_
  refine V_if_ne C 149 d_G_look_142 (by decide) (fun c1 => ?_) (fun c1 => ?_)
  · refine V_iload_n C d_G_look_149 rfl ?_
    refine V_putG C 5 (by decide) wf_G_99 rfl rfl rfl rfl d_G_look_150 (fun h2 eh2 => ?_)
    refine V_iinc C [(0, .ref (gA g 0)), (1, .int (nI (j + 1)))] d_G_look_153 rfl (nI_1 _) (by decide) rfl rfl ?_
    refine V_goto C 92 d_G_look_156 (by decide) ?_
    exact k h1 h2 eh1 (by rw [eh2, if_neg c1])
  · refine V_iconst (v := (-1)) C d_G_look_145 (by decide) ?_
    refine V_goto C 150 d_G_look_146 (by decide) ?_
    refine V_putG C 5 (by decide) wf_G_99 rfl rfl rfl rfl d_G_look_150 (fun h2 eh2 => ?_)
    refine V_iinc C [(0, .ref (gA g 0)), (1, .int (nI (j + 1)))] d_G_look_153 rfl (nI_1 _) (by decide) rfl rfl ?_
    refine V_goto C 92 d_G_look_156 (by decide) ?_
    exact k h1 h2 eh1 (by rw [eh2, if_pos c1])
set_option maxHeartbeats 4000000 in
theorem lp_look1 {l : Launch} {R : Room} {args : Array Value} {M : MT} {g : Gh} {Q : State → Prop} {cells slots : Nat} (C : Cx args M g "GameGraph" b_G_look 2) {G : Gr} (E : gOk g ∧ l.stackTraces = false) (hG : Good G) {h0 : Pic} (hRf : 2 ≤ R.frames ∧ 8 + (1 + 11) + 40 ≤ R.locals) (hRc : cells ≤ R.cells ∧ slots ≤ R.slots) :
    ∀ (n j : Nat) (h : Pic), j ≤ Gn G → Gn G + 1 ≤ j + n → KF G h → FrL h0 h → LA G h j → (∀ h' : Pic, KF G h' → FrL h0 h' → LB G h' 0 → V l R args M g 2 Q cells slots h' 90 [(0, .ref (gA g 0))] []) → V l R args M g 2 Q cells slots h 24 [(0, .ref (gA g 0)), (1, .int (nI j))] [] := by
  intro n
  induction n with
  | zero => intro j h b1 b2; omega
  | succ n ih =>
    intro j h b1 b2 hK hF hA k
    have hn := hG.2.1
    refine V_iload_n C d_G_look_24 rfl ?_
    refine V_aload_n C d_G_look_25 rfl ?_
    refine V_getG C 1 (by decide) wf_G_15 rfl rfl d_G_look_26 ?_
    refine V_topi (nI (Gn G)) (hK.1.1) ?_
    refine V_icmp_ge C 90 d_G_look_29 (by decide) (fun c1 => ?_) (fun c1 => ?_)
    · have e := le_ge (by omega) (by omega) c1
      have e : j = Gn G := by omega
      refine V_lv [(0, .ref (gA g 0))] rfl ?_
      exact k h hK hF (LA_exit hA (Or.inl e))
    · have hl := nle_lt (by omega) (by omega) c1
      refine V_aload_n C d_G_look_32 rfl ?_
      refine V_getG C 4 (by decide) wf_G_96 rfl rfl d_G_look_33 ?_
      refine V_if_ne C 90 d_G_look_36 (by decide) (fun c2 => ?_) (fun c2 => ?_)
      · refine V_lv [(0, .ref (gA g 0))] rfl ?_
        exact k h hK hF (LA_exit hA (Or.inr c2))
      · refine V_aload_n C d_G_look_39 rfl ?_
        refine V_aload_n C d_G_look_40 rfl ?_
        refine V_getG C 0 (by decide) wf_G_11 rfl rfl d_G_look_41 ?_
        refine V_iload_n C d_G_look_44 rfl ?_
        refine V_aald C j rfl (by omega) d_G_look_45 ?_
        refine V_getN C j (by omega) 5 (by decide) wn_G_66 rfl rfl d_G_look_46 ?_
        refine V_if_eq C 64 d_G_look_49 (by decide) (fun c3 => ?_) (fun c3 => ?_)
        · refine V_iconst (v := 0) C d_G_look_64 (by decide) ?_
          refine lk_tailA C (fun h1 h2 e1 e2 => ?_)
          exact ih (j + 1) h2 (by omega) (by omega) (hK.fr hn (fr45 e1 e2)) (hF.tr (fr45 e1 e2)) (LA_step hA c2 hl (Or.inl ⟨rfl, fun hr => absurd (((hK.2.1 j hl).mpr hr).symm.trans c3) (by decide)⟩) e1 e2) k
        · have hr : Reach G 0 j := (hK.2.1 j hl).mp ((hK.2.2.1 j hl).resolve_left c3)
          refine V_aload_n C d_G_look_52 rfl ?_
          refine V_getG C 0 (by decide) wf_G_11 rfl rfl d_G_look_53 ?_
          refine V_iload_n C d_G_look_56 rfl ?_
          refine V_aald C j rfl (by omega) d_G_look_57 ?_
          refine V_callV C "GameGraph$State" (As := []) (st := [.ref (gA g 0)]) (c_S_defect E h j (by omega)) wc_S_defect (fun _ _ => codeIs) wz_S wl_G_102 wi_S_defect ws_S_defect ⟨by decide, by decide⟩ rfl (recvS (by omega)) hRf hRc (Nat.le_of_ble_eq_true rfl) d_G_look_58 (fun r h1 hp => ?_) (fun X h1 hp => hp.elim)
          obtain ⟨rfl, rfl⟩ := hp
          refine V_topi (own G j) (own_eq hK.1 hG hl) ?_
          refine V_goto C 65 d_G_look_61 (by decide) ?_
          refine lk_tailA C (fun h2 h3 e1 e2 => ?_)
          exact ih (j + 1) h3 (by omega) (by omega) (hK.fr hn (fr45 e1 e2)) (hF.tr (fr45 e1 e2)) (LA_step hA c2 hl (Or.inr ⟨hr, rfl⟩) e1 e2) k
set_option maxHeartbeats 4000000 in
theorem lp_look2 {l : Launch} {R : Room} {args : Array Value} {M : MT} {g : Gh} {Q : State → Prop} {cells slots : Nat} (C : Cx args M g "GameGraph" b_G_look 2) {G : Gr} (E : gOk g ∧ l.stackTraces = false) (hG : Good G) {h0 : Pic} (hRf : 3 ≤ R.frames ∧ 8 + (7 + 11) + 80 ≤ R.locals) (hRc : cells ≤ R.cells ∧ slots ≤ R.slots) :
    ∀ (n j : Nat) (h : Pic), j ≤ Gn G → Gn G + 1 ≤ j + n → KF G h → FrL h0 h → LB G h j → (∀ h' : Pic, KF G h' → FrL h0 h' → Def G (h' 0 4) (h' 0 5) → V l R args M g 2 Q cells slots h' 159 [(0, .ref (gA g 0))] []) → V l R args M g 2 Q cells slots h 92 [(0, .ref (gA g 0)), (1, .int (nI j))] [] := by
  intro n
  induction n with
  | zero => intro j h b1 b2; omega
  | succ n ih =>
    intro j h b1 b2 hK hF hA k
    have hn := hG.2.1
    refine V_iload_n C d_G_look_92 rfl ?_
    refine V_aload_n C d_G_look_93 rfl ?_
    refine V_getG C 1 (by decide) wf_G_15 rfl rfl d_G_look_94 ?_
    refine V_topi (nI (Gn G)) (hK.1.1) ?_
    refine V_icmp_ge C 159 d_G_look_97 (by decide) (fun c1 => ?_) (fun c1 => ?_)
    · have e := le_ge (by omega) (by omega) c1
      have e : j = Gn G := by omega
      refine V_lv [(0, .ref (gA g 0))] rfl ?_
      exact k h hK hF (LB_exit hA (Or.inl e))
    · have hl := nle_lt (by omega) (by omega) c1
      refine V_aload_n C d_G_look_100 rfl ?_
      refine V_getG C 4 (by decide) wf_G_96 rfl rfl d_G_look_101 ?_
      refine V_if_ne C 159 d_G_look_104 (by decide) (fun c2 => ?_) (fun c2 => ?_)
      · refine V_lv [(0, .ref (gA g 0))] rfl ?_
        exact k h hK hF (LB_exit hA (Or.inr c2))
      · refine V_aload_n C d_G_look_107 rfl ?_
        refine V_aload_n C d_G_look_108 rfl ?_
        refine V_getG C 0 (by decide) wf_G_11 rfl rfl d_G_look_109 ?_
        refine V_iload_n C d_G_look_112 rfl ?_
        refine V_aald C j rfl (by omega) d_G_look_113 ?_
        refine V_getN C j (by omega) 5 (by decide) wn_G_66 rfl rfl d_G_look_114 ?_
        refine V_if_eq C 133 d_G_look_117 (by decide) (fun c3 => ?_) (fun c3 => ?_)
        · refine V_iconst (v := 0) C d_G_look_133 (by decide) ?_
          refine lk_tailB C (fun h1 h2 e1 e2 => ?_)
          exact ih (j + 1) h2 (by omega) (by omega) (hK.fr hn (fr45 e1 e2)) (hF.tr (fr45 e1 e2)) (LB_step hA c2 hl (Or.inl ⟨rfl, fun hr => absurd (((hK.2.1 j hl).mpr hr).symm.trans c3) (by decide)⟩) e1 e2) k
        · have hr : Reach G 0 j := (hK.2.1 j hl).mp ((hK.2.2.1 j hl).resolve_left c3)
          refine V_aload_n C d_G_look_120 rfl ?_
          refine V_iload_n C d_G_look_121 rfl ?_
          refine V_callV C "GameGraph" (As := [.int (nI j)]) (st := [.ref (gA g 0)]) (c_G_comesBack E G h hG hK.1 j hl) wc_G_comesBack (fun _ _ => codeIs) wz_G wl_G_105 wi_G_comesBack ws_G_comesBack ⟨by decide, by decide⟩ rfl recvG hRf hRc (Nat.le_of_ble_eq_true rfl) d_G_look_122 (fun r h1 hp => ?_) (fun X h1 hp => hp.elim)
          obtain ⟨hB, hp⟩ := hp
          have hK1 := hK.fr hn hB.frL
          have hF1 := hF.tr hB.frL
          have hA1 : LB G h1 j := hA.fr (hB 0 4 (by omega) (by omega)) (hB 0 5 (by omega) (by omega))
          have c2 : h1 0 4 = 0 := (hB 0 4 (by omega) (by omega)).trans c2
          rcases hp with ⟨rfl, hcy⟩ | ⟨rfl, hcy⟩
          · refine V_if_eq C 133 d_G_look_125 (by decide) (fun c4 => ?_) (fun c4 => ?_)
            · exact absurd c4 (by decide)
            · refine V_bipush (v := 6) C d_G_look_128 (by decide) ?_
              refine V_goto C 134 d_G_look_130 (by decide) ?_
              refine lk_tailB C (fun h2 h3 e1 e2 => ?_)
              exact ih (j + 1) h3 (by omega) (by omega) (hK1.fr hn (fr45 e1 e2)) (hF1.tr (fr45 e1 e2)) (LB_step hA1 c2 hl (Or.inr ⟨hr, hcy, rfl⟩) e1 e2) k
          · refine V_if_eq C 133 d_G_look_125 (by decide) (fun c4 => ?_) (fun c4 => ?_)
            · refine V_iconst (v := 0) C d_G_look_133 (by decide) ?_
              refine lk_tailB C (fun h2 h3 e1 e2 => ?_)
              exact ih (j + 1) h3 (by omega) (by omega) (hK1.fr hn (fr45 e1 e2)) (hF1.tr (fr45 e1 e2)) (LB_step hA1 c2 hl (Or.inl ⟨rfl, fun _ => hcy⟩) e1 e2) k
            · exact absurd rfl c4
set_option maxHeartbeats 4000000 in
theorem c_G_look {l : Launch} {g : Gh} (E : gOk g ∧ l.stackTraces = false) (G : Gr) (h : Pic) (hG : Good G) (hI : InvC G h) : Ct l g y_G_look k_G_look (RM 4 0 0) [.ref (gA g 0)] h (fun r h' => r = none ∧ RepC G h' ∧ h' 0 2 = 1 ∧ KnC G h' ∧ SameM h h') (fun _ _ => False) := by
  refine Ct_of E.1 E.2 (by decide) (Nat.le_of_ble_eq_true rfl) (fun M C hr hx => ?_)
  have C : Cx _ M g "GameGraph" b_G_look 2 := C
  refine V_lv [(0, .ref (gA g 0))] rfl ?_
  refine V_aload_n C d_G_look_0 rfl ?_
  refine V_getG C 2 (by decide) wf_G_49 rfl rfl d_G_look_1 ?_
  refine V_if_eq C 8 d_G_look_4 (by decide) (fun c1 => ?_) (fun c1 => ?_)
  · refine V_aload_n C d_G_look_8 rfl ?_
    refine V_callV C "GameGraph" (As := []) (st := []) (c_G_reach E G h hG hI.1) wc_G_reach (fun _ _ => codeIs) wz_G wl_G_93 wi_G_reach ws_G_reach ⟨by decide, by decide⟩ rfl recvG ⟨by decide, by decide⟩ ⟨by decide, by decide⟩ (Nat.le_of_ble_eq_true rfl) d_G_look_9 (fun r h1 hp => ?_) (fun X h1 hp => hp.elim)
    obtain ⟨rfl, f1, k1, k2, k3⟩ := hp
    have hn := hG.2.1
    have hK1 : KF G h1 := ⟨f1.repC hI.1 hn, k1, k2, k3⟩
    refine V_aload_n C d_G_look_12 rfl ?_
    refine V_iconst (v := 0) C d_G_look_13 (by decide) ?_
    refine V_putG C 4 (by decide) wf_G_96 rfl rfl rfl rfl d_G_look_14 (fun h2 eh2 => ?_)
    refine V_aload_n C d_G_look_17 rfl ?_
    refine V_iconst (v := (-1)) C d_G_look_18 (by decide) ?_
    refine V_putG C 5 (by decide) wf_G_99 rfl rfl rfl rfl d_G_look_19 (fun h3 eh3 => ?_)
    refine V_iconst (v := 0) C d_G_look_22 (by decide) ?_
    refine V_istore_n C [(0, .ref (gA g 0)), (1, .int 0)] d_G_look_23 (by decide) rfl rfl ?_
    refine V_lv [(0, .ref (gA g 0)), (1, .int (nI 0))] rfl ?_
    have f3 : FrL h1 h3 := fr45 eh2 eh3
    refine lp_look1 C E hG (h0 := h1) ⟨by decide, by decide⟩ ⟨by decide, by decide⟩ (Gn G + 1) 0 h3 (by omega) (by omega) (hK1.fr hn f3) f3 (Or.inl ⟨by rw [eh3, pu_i (by decide), eh2, pu_self], by rw [eh3, pu_self], fun v hv => by omega⟩) (fun h4 hK4 f4 hB4 => ?_)
    refine V_iconst (v := 0) C d_G_look_90 (by decide) ?_
    refine V_istore_n C [(0, .ref (gA g 0)), (1, .int 0)] d_G_look_91 (by decide) rfl rfl ?_
    refine V_lv [(0, .ref (gA g 0)), (1, .int (nI 0))] rfl ?_
    refine lp_look2 C E hG (h0 := h1) ⟨by decide, by decide⟩ ⟨by decide, by decide⟩ (Gn G + 1) 0 h4 (by omega) (by omega) hK4 f4 hB4 (fun h5 hK5 f5 hD5 => ?_)
    have hM5 : SameM h h5 := f1.sameM.tr f5.sameM
    refine V_aload_n C d_G_look_159 rfl ?_
    refine V_getG C 4 (by decide) wf_G_96 rfl rfl d_G_look_160 ?_
    refine V_if_ne C 170 d_G_look_163 (by decide) (fun c2 => ?_) (fun c2 => ?_)
    · refine V_aload_n C d_G_look_170 rfl ?_
      refine V_iconst (v := 1) C d_G_look_171 (by decide) ?_
      refine V_putG C 2 (by decide) wf_G_49 rfl rfl rfl rfl d_G_look_172 (fun h6 eh6 => ?_)
      have f6 : ∀ k i, ¬ (k = 0 ∧ i = 2) → h6 k i = h5 k i := fun k i q => by rw [eh6]; unfold pu; rw [if_neg q]
      have f6L : KF G h6 := ⟨hK5.1.fr hn (f6 0 1 (by omega)) (fun u i _ _ => f6 _ _ (by omega)) (fun u i _ => f6 _ _ (by omega)), fun v hv => by unfold flg; rw [f6 _ _ (by omega)]; exact hK5.2.1 v hv, fun v hv => by rw [f6 _ _ (by omega)]; exact hK5.2.2.1 v hv, by rw [f6 0 3 (by omega)]; exact hK5.2.2.2⟩
      refine V_vret C hr d_G_look_175 ⟨rfl, f6L.1, by rw [eh6, pu_self], ⟨f6L, by rw [f6 0 4 (by omega), f6 0 5 (by omega)]; exact hD5, fun hs => absurd (hD5.insane hs).1 c2⟩, fun k x y => funext fun i => ?_⟩
      rw [f6 k i (by omega), hM5 k x y]
    · have hs : Sane G := Def.sane (by rw [← c2]; exact hD5)
      refine V_aload_n C d_G_look_166 rfl ?_
      refine V_callV C "GameGraph" (As := []) (st := []) (c_G_measure E G h5 hG hs hK5.1) wc_G_measure (fun _ _ => codeIs) wz_G wl_G_109 wi_G_measure ws_G_measure ⟨by decide, by decide⟩ rfl recvG ⟨by decide, by decide⟩ ⟨by decide, by decide⟩ (Nat.le_of_ble_eq_true rfl) d_G_look_167 (fun r h6 hp => ?_) (fun X h1 hp => hp.elim)
      obtain ⟨rfl, g1, g2, g3⟩ := hp
      refine V_aload_n C d_G_look_170 rfl ?_
      refine V_iconst (v := 1) C d_G_look_171 (by decide) ?_
      refine V_putG C 2 (by decide) wf_G_49 rfl rfl rfl rfl d_G_look_172 (fun h7 eh7 => ?_)
      have f7 : ∀ k i, ¬ (k = 0 ∧ i = 2) → k ≠ 2 → ¬ (17 ≤ k ∧ k < 77 ∧ 6 ≤ i ∧ i ≤ 10) → h7 k i = h5 k i := fun k i q1 q2 q3 => by rw [eh7]; unfold pu; rw [if_neg q1]; exact g1 k i q2 q3
      have f7L : KF G h7 := ⟨hK5.1.fr hn (f7 0 1 (by omega) (by omega) (by omega)) (fun u i _ _ => f7 _ _ (by omega) (by omega) (by omega)) (fun u i _ => f7 _ _ (by omega) (by omega) (by omega)), fun v hv => by unfold flg; rw [f7 _ _ (by omega) (by omega) (by omega)]; exact hK5.2.1 v hv, fun v hv => by rw [f7 _ _ (by omega) (by omega) (by omega)]; exact hK5.2.2.1 v hv, by rw [f7 0 3 (by omega) (by omega) (by omega)]; exact hK5.2.2.2⟩
      have e7 : ∀ w i, h7 (17 + w) i = h6 (17 + w) i := fun w i => by rw [eh7, pu_k (by omega)]
      refine V_vret C hr d_G_look_175 ⟨rfl, f7L.1, by rw [eh7, pu_self], ⟨f7L, by rw [f7 0 4 (by omega) (by omega) (by omega), f7 0 5 (by omega) (by omega) (by omega)]; exact hD5, fun _ w hw hrw => ⟨by rw [e7]; exact g2 w hw hrw, ?_⟩⟩, fun k x y => funext fun i => ?_⟩
      · have hv := VAL_range hG hs (rk G w + 1) w (by omega) hw hrw
        unfold BO
        rw [e7, e7, (g3 w hw).1, (g3 w hw).2]
        exact ⟨by decide, hv.1, hv.2, by decide⟩
      · rw [f7 k i (by omega) (by omega) (by omega), hM5 k x y]
  · have e := hI.2.1.resolve_left c1
    exact V_vret C hr d_G_look_7 ⟨rfl, hI.1, e, hI.2.2 e, SameM.rf⟩
set_option maxHeartbeats 4000000 in
theorem c_G_reached {l : Launch} {g : Gh} (E : gOk g ∧ l.stackTraces = false) (G : Gr) (h : Pic) (hG : Good G) (hI : InvC G h) : Ct l g y_G_reached k_G_reached (RM 5 0 0) [.ref (gA g 0)] h (fun r h' => r = some (.int (nI (cnt (Reach G 0) (Gn G)))) ∧ InvC G h' ∧ SameM h h') (fun _ _ => False) := by
  refine Ct_of E.1 E.2 (by decide) (Nat.le_of_ble_eq_true rfl) (fun M C hr hx => ?_)
  have C : Cx _ M g "GameGraph" b_G_reached 1 := C
  refine V_lv [(0, .ref (gA g 0))] rfl ?_
  refine V_aload_n C d_G_reached_0 rfl ?_
  refine V_callV C "GameGraph" (As := []) (st := []) (c_G_look E G h hG hI) wc_G_look (fun _ _ => codeIs) wz_G wl_G_112 wi_G_look ws_G_look ⟨by decide, by decide⟩ rfl recvG ⟨by decide, by decide⟩ ⟨by decide, by decide⟩ (Nat.le_of_ble_eq_true rfl) d_G_reached_1 (fun r h1 hp => ?_) (fun X h1 hp => hp.elim)
  obtain ⟨rfl, a1, a2, a3, a4⟩ := hp
  refine V_aload_n C d_G_reached_4 rfl ?_
  refine V_getG C 3 (by decide) wf_G_69 rfl rfl d_G_reached_5 ?_
  exact V_iret C hr rfl d_G_reached_8 ⟨by rw [a3.1.2.2.2], ⟨a1, Or.inr a2, fun _ => a3⟩, a4⟩
theorem in_0_1 {x : Int32} (h : 0 ≤ x ∧ x ≤ 1) : x = 0 ∨ x = 1 := by
  rw [i32_le, i32_le, show (0 : Int32).toInt = 0 from rfl, show (1 : Int32).toInt = 1 from rfl] at h
  rw [i32_eq, i32_eq, show (0 : Int32).toInt = 0 from rfl, show (1 : Int32).toInt = 1 from rfl]
  omega
set_option maxHeartbeats 4000000 in
theorem c_G_defect {l : Launch} {g : Gh} (E : gOk g ∧ l.stackTraces = false) (G : Gr) (h : Pic) (hG : Good G) (hI : InvC G h) (x : Int32) : Ct l g y_G_defect k_G_defect (RM 10 1 6) [.ref (gA g 0), .int x] h (fun r h' => (x = 0 ∨ x = 1) ∧ (∃ d w, Def G d w ∧ r = some (.int (if x = 0 then d else w))) ∧ InvC G h' ∧ SameM h h') (fun X h' => h' = h ∧ X = "java/lang/IllegalArgumentException" ∧ ¬ (x = 0 ∨ x = 1)) := by
  refine Ct_of E.1 E.2 (by decide) (Nat.le_of_ble_eq_true rfl) (fun M C hr hx => ?_)
  have C : Cx _ M g "GameGraph" b_G_defect 2 := C
  refine V_lv [(0, .ref (gA g 0)), (1, .int x)] rfl ?_
  refine V_iload_n C d_G_defect_0 rfl ?_
  refine V_iconst (v := 0) C d_G_defect_1 (by decide) ?_
  refine V_iconst (v := 1) C d_G_defect_2 (by decide) ?_
  refine V_callS C (As := [.int x, .int 0, .int 1]) (st := []) (c_G_is E h x 0 1) wc_G_is (fun _ _ => codeIs) wz_G wl_G_38 wt_G_is ⟨by decide, by decide⟩ rfl ⟨by decide, by decide⟩ ⟨by decide, by decide⟩ (Nat.le_of_ble_eq_true rfl) d_G_defect_3 (fun r h1 hp => ?_) (fun X h1 hp => hp.elim)
  obtain ⟨rfl, rfl⟩ := hp
  refine V_callS C (As := [.int (if 0 ≤ x ∧ x ≤ 1 then 1 else 0)]) (st := []) (c_G_need E h1 _) wc_G_need (fun _ _ => codeIs) wz_G wl_G_46 wt_G_need ⟨by decide, by decide⟩ rfl ⟨by decide, by decide⟩ ⟨by decide, by decide⟩ (Nat.le_of_ble_eq_true rfl) d_G_defect_6 (fun r h2 hp => ?_) (fun X h2 hp => ?_)
  · obtain ⟨rfl, rfl, hne⟩ := hp
    have hx01 := in_0_1 (if10 hne)
    refine V_aload_n C d_G_defect_9 rfl ?_
    refine V_callV C "GameGraph" (As := []) (st := []) (c_G_look E G h2 hG hI) wc_G_look (fun _ _ => codeIs) wz_G wl_G_112 wi_G_look ws_G_look ⟨by decide, by decide⟩ rfl recvG ⟨by decide, by decide⟩ ⟨by decide, by decide⟩ (Nat.le_of_ble_eq_true rfl) d_G_defect_10 (fun r h3 hp => ?_) (fun X h1 hp => hp.elim)
    obtain ⟨rfl, a1, a2, a3, a4⟩ := hp
    refine V_iload_n C d_G_defect_13 rfl ?_
    refine V_if_ne C 24 d_G_defect_14 (by decide) (fun c1 => ?_) (fun c1 => ?_)
    · refine V_aload_n C d_G_defect_24 rfl ?_
      refine V_getG C 5 (by decide) wf_G_99 rfl rfl d_G_defect_25 ?_
      exact V_iret C hr rfl d_G_defect_28 ⟨hx01, ⟨_, _, a3.2.1, by rw [if_neg c1]⟩, ⟨a1, Or.inr a2, fun _ => a3⟩, a4⟩
    · refine V_aload_n C d_G_defect_17 rfl ?_
      refine V_getG C 4 (by decide) wf_G_96 rfl rfl d_G_defect_18 ?_
      refine V_goto C 28 d_G_defect_21 (by decide) ?_
      exact V_iret C hr rfl d_G_defect_28 ⟨hx01, ⟨_, _, a3.2.1, by rw [if_pos c1]⟩, ⟨a1, Or.inr a2, fun _ => a3⟩, a4⟩
  · obtain ⟨rfl, rfl, he⟩ := hp
    exact VX_leave C hx ⟨rfl, rfl, fun q => if10n he (by rcases q with rfl | rfl <;> decide)⟩
set_option maxHeartbeats 4000000 in
theorem c_G_findReached {l : Launch} {g : Gh} (E : gOk g ∧ l.stackTraces = false) (G : Gr) (h : Pic) (hG : Good G) (hI : InvC G h) (x : Int32) : Ct l g y_G_findReached k_G_findReached (RM 11 2 12) [.ref (gA g 0), .int x] h (fun r h' => Sane G ∧ (∃ u, u < Gn G ∧ x = nI u ∧ Reach G 0 u ∧ r = some (.ref (gA g (17 + u)))) ∧ RepC G h' ∧ h' 0 2 = 1 ∧ KnC G h' ∧ SameM h h') (fun X h' => InvC G h' ∧ SameM h h' ∧ ((X = "java/lang/IllegalStateException" ∧ ¬ Sane G) ∨ (X = "java/lang/IndexOutOfBoundsException" ∧ Sane G ∧ ¬ ∃ u, u < Gn G ∧ x = nI u ∧ Reach G 0 u))) := by
  refine Ct_of E.1 E.2 (by decide) (Nat.le_of_ble_eq_true rfl) (fun M C hr hx => ?_)
  have C : Cx _ M g "GameGraph" b_G_findReached 3 := C
  refine V_lv [(0, .ref (gA g 0)), (1, .int x)] rfl ?_
  refine V_aload_n C d_G_findReached_0 rfl ?_
  refine V_callV C "GameGraph" (As := []) (st := []) (c_G_look E G h hG hI) wc_G_look (fun _ _ => codeIs) wz_G wl_G_112 wi_G_look ws_G_look ⟨by decide, by decide⟩ rfl recvG ⟨by decide, by decide⟩ ⟨by decide, by decide⟩ (Nat.le_of_ble_eq_true rfl) d_G_findReached_1 (fun r h1 hp => ?_) (fun X h1 hp => hp.elim)
  obtain ⟨rfl, a1, a2, a3, a4⟩ := hp
  have hI1 : InvC G h1 := ⟨a1, Or.inr a2, fun _ => a3⟩
  have hn := hG.2.1
  refine V_aload_n C d_G_findReached_4 rfl ?_
  refine V_getG C 4 (by decide) wf_G_96 rfl rfl d_G_findReached_5 ?_
  refine V_if_eq C 19 d_G_findReached_8 (by decide) (fun c1 => ?_) (fun c1 => ?_)
  · have hs : Sane G := Def.sane (by rw [← c1]; exact a3.2.1)
    refine V_aload_n C d_G_findReached_19 rfl ?_
    refine V_iload_n C d_G_findReached_20 rfl ?_
    refine V_callV C "GameGraph" (As := [.int x]) (st := []) (c_G_find E h1 (Gn G) hG.2.1 a1.1 x) wc_G_find (fun _ _ => codeIs) wz_G wl_G_53 wi_G_find ws_G_find ⟨by decide, by decide⟩ rfl recvG ⟨by decide, by decide⟩ ⟨by decide, by decide⟩ (Nat.le_of_ble_eq_true rfl) d_G_findReached_21 (fun r h2 hp => ?_) (fun X h2 hp => ?_)
    · obtain ⟨rfl, u, hu, rfl, rfl⟩ := hp
      refine V_lv [(0, .ref (gA g 0)), (1, .int (nI u))] rfl ?_
      refine V_astore_n C [(0, .ref (gA g 0)), (1, .int (nI u)), (2, .ref (gA g (17 + u)))] d_G_findReached_24 (by decide) rfl rfl ?_
      refine V_aload_n C d_G_findReached_25 rfl ?_
      refine V_getN C u (by omega) 5 (by decide) wn_G_66 rfl rfl d_G_findReached_26 ?_
      refine V_callS C (As := [.int (h2 (17 + u) 5)]) (st := []) (c_G_there E h2 _) wc_G_there (fun _ _ => codeIs) wz_G wl_G_42 wt_G_there ⟨by decide, by decide⟩ rfl ⟨by decide, by decide⟩ ⟨by decide, by decide⟩ (Nat.le_of_ble_eq_true rfl) d_G_findReached_29 (fun r h3 hp => ?_) (fun X h3 hp => ?_)
      · obtain ⟨rfl, rfl, hne⟩ := hp
        have hre : Reach G 0 u := (a3.1.2.1 u hu).mp ((a3.1.2.2.1 u hu).resolve_left hne)
        refine V_aload_n C d_G_findReached_32 rfl ?_
        exact V_aret C hr d_G_findReached_33 ⟨hs, ⟨u, hu, rfl, hre, rfl⟩, a1, a2, a3, a4⟩
      · obtain ⟨rfl, rfl, he⟩ := hp
        refine VX_leave C hx ⟨hI1, a4, Or.inr ⟨rfl, hs, fun ⟨v, v1, v2, v3⟩ => ?_⟩⟩
        have e := (nI_eq (by omega) (by omega)).mp v2
        subst e
        exact absurd (((a3.1.2.1 u hu).mpr v3).symm.trans he) (by decide)
    · obtain ⟨rfl, rfl, hno⟩ := hp
      exact VX_wide (c' := 2) (s' := 12) (by decide) (by decide) (VX_leave C hx ⟨hI1, a4, Or.inr ⟨rfl, hs, fun ⟨v, v1, v2, _⟩ => hno v v1 v2⟩⟩)
  · refine V_wide (c' := 1) (s' := 6) (by decide) (by decide) ?_
    exact V_throw C hx (names := ["java/lang/RuntimeException", "java/lang/Exception"]) (by decide) (by decide) wown_IS wk_G_128 wx_IS wz_IS d_G_findReached_11 d_G_findReached_14 d_G_findReached_15 d_G_findReached_18 ⟨by decide, by decide⟩ (by decide) (by decide) ⟨hI1, a4, Or.inl ⟨rfl, fun hs => c1 (a3.2.1.insane hs).1⟩⟩
end
section
-- ===== printed by gen/w7.py: search, valueOf, value, best, length =====
theorem bst_ge {w : Nat → Int32} : ∀ {k j : Nat}, j < k → w j ≤ bst true w k := by
  intro k
  induction k with
  | zero => intro j h; omega
  | succ k ih =>
    intro j hj
    cases k with
    | zero => rw [show j = 0 by omega]; exact Int32.le_refl _
    | succ k =>
      simp only [bst, if_pos]
      by_cases q : j = k + 1
      · subst q
        split
        · exact Int32.le_refl _
        · rename_i c; exact Int32.not_lt.mp c
      · have h1 := ih (show j < k + 1 by omega)
        split
        · rename_i c
          rw [i32_le] at h1 ⊢
          rw [i32_lt] at c
          omega
        · exact h1
theorem bst_le {w : Nat → Int32} : ∀ {k j : Nat}, j < k → bst false w k ≤ w j := by
  intro k
  induction k with
  | zero => intro j h; omega
  | succ k ih =>
    intro j hj
    cases k with
    | zero => rw [show j = 0 by omega]; exact Int32.le_refl _
    | succ k =>
      simp only [bst]
      rw [if_neg (by decide)]
      by_cases q : j = k + 1
      · subst q
        split
        · exact Int32.le_refl _
        · rename_i c; exact Int32.not_lt.mp c
      · have h1 := ih (show j < k + 1 by omega)
        split
        · rename_i c
          rw [i32_le] at h1 ⊢
          rw [i32_lt] at c
          omega
        · exact h1
/-- what an answer of search(.., al, be) says of the value va -/
def Res (al be va v : Int32) : Prop := (v ≤ al → va ≤ v) ∧ (be ≤ v → v ≤ va) ∧ (al < v → v < be → v = va)
theorem ab_fin {al be lo hi va F T B : Int32} (hF : F = if al < lo then lo else al) (hT : T = if hi < be then hi else be) (h1 : lo ≤ va) (h2 : va ≤ hi) (P1 : F < B → B ≤ va) (P2 : B < T → va ≤ B) (hab : al < be) (hFT : F < T) : Res al be va B := by
  unfold Res
  by_cases c1 : al < lo
  · rw [if_pos c1] at hF
    by_cases c2 : hi < be
    · rw [if_pos c2] at hT
      subst hF; subst hT
      simp only [i32_le, i32_lt, i32_eq] at *
      omega
    · rw [if_neg c2] at hT
      subst hF; subst hT
      simp only [i32_le, i32_lt, i32_eq] at *
      omega
  · rw [if_neg c1] at hF
    by_cases c2 : hi < be
    · rw [if_pos c2] at hT
      subst hF; subst hT
      simp only [i32_le, i32_lt, i32_eq] at *
      omega
    · rw [if_neg c2] at hT
      subst hF; subst hT
      simp only [i32_le, i32_lt, i32_eq] at *
      omega
theorem ab_FT {al be lo hi F T : Int32} (hF : F = if al < lo then lo else al) (hT : T = if hi < be then hi else be) (h1 : lo < hi) (h2 : lo < be) (h3 : al < hi) (h4 : al < be) : F < T := by
  rw [hF, hT]
  repeat' split
  all_goals assumption
theorem ab_F0 {al lo F : Int32} (hF : F = if al < lo then lo else al) (h1 : 0 ≤ lo) : 0 ≤ F := by
  rw [hF]
  split
  · exact h1
  · rename_i c
    simp only [i32_le, i32_lt] at *
    omega
theorem ab_T1 {be hi T : Int32} (hT : T = if hi < be then hi else be) (h1 : hi ≤ 100) : T ≤ 100 := by
  rw [hT]
  split
  · exact h1
  · rename_i c
    simp only [i32_le, i32_lt] at *
    omega
def SI (w : Nat → Int32) (F T B : Int32) (j : Nat) : Prop := (∀ i, i < j → w i ≤ B ∨ T ≤ B) ∧ (F < B → ∃ i, i < j ∧ B ≤ w i) ∧ (j = 0 → B = -1) ∧ (0 < j → 0 ≤ B ∧ B ≤ 100)
def SJ (w : Nat → Int32) (F T B : Int32) (j : Nat) : Prop := (∀ i, i < j → B ≤ w i ∨ B ≤ F) ∧ (B < T → ∃ i, i < j ∧ w i ≤ B) ∧ (j = 0 → B = 101) ∧ (0 < j → 0 ≤ B ∧ B ≤ 100)
theorem SI_low {w : Nat → Int32} {F T B : Int32} {j : Nat} (s : SI w F T B j) : -1 ≤ B := by
  rcases Nat.eq_zero_or_pos j with q | q
  · rw [s.2.2.1 q]; decide
  · have := (s.2.2.2 q).1
    rw [i32_le, show (0 : Int32).toInt = 0 from rfl] at this
    rw [i32_le, show (-1 : Int32).toInt = -1 from rfl]
    omega
theorem SJ_high {w : Nat → Int32} {F T B : Int32} {j : Nat} (s : SJ w F T B j) : B ≤ 101 := by
  rcases Nat.eq_zero_or_pos j with q | q
  · rw [s.2.2.1 q]; decide
  · have := (s.2.2.2 q).2
    rw [i32_le, show (100 : Int32).toInt = 100 from rfl] at this
    rw [i32_le, show (101 : Int32).toInt = 101 from rfl]
    omega
theorem SI_step {w : Nat → Int32} {F T B a v B' : Int32} {j : Nat} (s : SI w F T B j) (ha : a = if F < B then B else F) (hat : a < T) (r : Res a T (w j) v) (hv : 0 ≤ v ∧ v ≤ 100) (hB : B' = if B < v then v else B) : SI w F T B' (j + 1) := by
  have hlow := SI_low s
  obtain ⟨s1, s2, s3, s4⟩ := s
  obtain ⟨r1, r2, r3⟩ := r
  have hBT : B < T ∧ B ≤ a ∧ F ≤ a := by
    rw [ha] at hat ⊢
    by_cases c : F < B
    · rw [if_pos c] at hat ⊢
      simp only [i32_le, i32_lt] at *
      omega
    · rw [if_neg c] at hat ⊢
      simp only [i32_le, i32_lt] at *
      omega
  have hm1 : (-1 : Int32).toInt = -1 := rfl
  by_cases c : B < v
  · rw [if_pos c] at hB
    rw [hB]
    clear hB
    refine ⟨fun i hi => ?_, fun hF => ?_, fun q => by omega, fun _ => hv⟩
    · by_cases q : i = j
      · subst q
        by_cases c1 : v ≤ a
        · exact Or.inl (r1 c1)
        · by_cases c2 : v < T
          · exact Or.inl (by rw [r3 (Int32.not_le.mp c1) c2]; exact Int32.le_refl _)
          · exact Or.inr (Int32.not_lt.mp c2)
      · rcases s1 i (by omega) with z | z
        · refine Or.inl ?_
          simp only [i32_le, i32_lt] at *
          omega
        · simp only [i32_le, i32_lt] at *
          omega
    · refine ⟨j, by omega, ?_⟩
      by_cases c1 : v ≤ a
      · have hva : a = F ∨ a = B := by
          rw [ha]
          by_cases cc : F < B
          · rw [if_pos cc]; exact Or.inr rfl
          · rw [if_neg cc]; exact Or.inl rfl
        exfalso
        rcases hva with e | e <;> subst e <;> simp only [i32_le, i32_lt] at * <;> omega
      · by_cases c2 : v < T
        · rw [r3 (Int32.not_le.mp c1) c2]; exact Int32.le_refl _
        · exact r2 (Int32.not_lt.mp c2)
  · rw [if_neg c] at hB
    rw [hB]
    clear hB
    have hB0 : 0 ≤ B ∧ B ≤ 100 := by
      rcases Nat.eq_zero_or_pos j with q | q
      · exfalso
        rw [s3 q] at c
        have h0 : (0 : Int32).toInt = 0 := rfl
        simp only [i32_le, i32_lt, hm1, h0] at *
        omega
      · exact s4 q
    refine ⟨fun i hi => ?_, fun hF => ?_, fun q => by omega, fun _ => hB0⟩
    · by_cases q : i = j
      · subst q
        have c1 : v ≤ a := by
          simp only [i32_le, i32_lt] at *
          omega
        have := r1 c1
        refine Or.inl ?_
        simp only [i32_le, i32_lt] at *
        omega
      · exact s1 i (by omega)
    · obtain ⟨i, i1, i2⟩ := s2 hF
      exact ⟨i, by omega, i2⟩
theorem SJ_step {w : Nat → Int32} {F T B b v B' : Int32} {j : Nat} (s : SJ w F T B j) (hb : b = if B < T then B else T) (hbt : F < b) (r : Res F b (w j) v) (hv : 0 ≤ v ∧ v ≤ 100) (hB : B' = if v < B then v else B) : SJ w F T B' (j + 1) := by
  have hhigh := SJ_high s
  obtain ⟨s1, s2, s3, s4⟩ := s
  obtain ⟨r1, r2, r3⟩ := r
  have hBT : F < B ∧ b ≤ B ∧ b ≤ T := by
    rw [hb] at hbt ⊢
    by_cases c : B < T
    · rw [if_pos c] at hbt ⊢
      simp only [i32_le, i32_lt] at *
      omega
    · rw [if_neg c] at hbt ⊢
      simp only [i32_le, i32_lt] at *
      omega
  have hm1 : (101 : Int32).toInt = 101 := rfl
  by_cases c : v < B
  · rw [if_pos c] at hB
    rw [hB]
    clear hB
    refine ⟨fun i hi => ?_, fun hF => ?_, fun q => by omega, fun _ => hv⟩
    · by_cases q : i = j
      · subst q
        by_cases c1 : b ≤ v
        · exact Or.inl (r2 c1)
        · by_cases c2 : F < v
          · exact Or.inl (by rw [r3 c2 (Int32.not_le.mp c1)]; exact Int32.le_refl _)
          · exact Or.inr (Int32.not_lt.mp c2)
      · rcases s1 i (by omega) with z | z
        · refine Or.inl ?_
          simp only [i32_le, i32_lt] at *
          omega
        · simp only [i32_le, i32_lt] at *
          omega
    · refine ⟨j, by omega, ?_⟩
      by_cases c1 : b ≤ v
      · have hva : b = T ∨ b = B := by
          rw [hb]
          by_cases cc : B < T
          · rw [if_pos cc]; exact Or.inr rfl
          · rw [if_neg cc]; exact Or.inl rfl
        exfalso
        rcases hva with e | e <;> subst e <;> simp only [i32_le, i32_lt] at * <;> omega
      · by_cases c2 : F < v
        · rw [r3 c2 (Int32.not_le.mp c1)]; exact Int32.le_refl _
        · exact r1 (Int32.not_lt.mp c2)
  · rw [if_neg c] at hB
    rw [hB]
    clear hB
    have hB0 : 0 ≤ B ∧ B ≤ 100 := by
      rcases Nat.eq_zero_or_pos j with q | q
      · exfalso
        rw [s3 q] at c
        have h0 : (100 : Int32).toInt = 100 := rfl
        simp only [i32_le, i32_lt, hm1, h0] at *
        omega
      · exact s4 q
    refine ⟨fun i hi => ?_, fun hF => ?_, fun q => by omega, fun _ => hB0⟩
    · by_cases q : i = j
      · subst q
        have c1 : b ≤ v := by
          simp only [i32_le, i32_lt] at *
          omega
        have := r2 c1
        refine Or.inl ?_
        simp only [i32_le, i32_lt] at *
        omega
      · exact s1 i (by omega)
    · obtain ⟨i, i1, i2⟩ := s2 hF
      exact ⟨i, by omega, i2⟩
theorem SI_exit {w : Nat → Int32} {F T B a : Int32} {j J : Nat} (s : SI w F T B j) (ha : a = if F < B then B else F) (hFT : F < T) (hj : j ≤ J) (hJ : 0 < J) (hx : j = J ∨ ¬ a < T) : (F < B → B ≤ bst true w J) ∧ (B < T → bst true w J ≤ B) ∧ 0 ≤ B ∧ B ≤ 100 := by
  obtain ⟨s1, s2, s3, s4⟩ := s
  have hTB : j = J ∨ (T ≤ B ∧ F < B) := by
    rcases hx with q | q
    · exact Or.inl q
    · refine Or.inr ?_
      rw [ha] at q
      by_cases c : F < B
      · rw [if_pos c] at q
        exact ⟨Int32.not_lt.mp q, c⟩
      · rw [if_neg c] at q
        exact absurd hFT q
  have hjp : 0 < j := by
    rcases hTB with q | q
    · omega
    · obtain ⟨i, hi, _⟩ := s2 q.2
      omega
  refine ⟨fun hF => ?_, fun hB => ?_, (s4 hjp).1, (s4 hjp).2⟩
  · obtain ⟨i, i1, i2⟩ := s2 hF
    have := bst_ge (w := w) (k := J) (j := i) (by omega)
    rw [i32_le] at *
    omega
  · rcases hTB with q | q
    · subst q
      obtain ⟨i, i1, i2⟩ := bst_mem (m := true) (w := w) hJ
      rw [i2]
      rcases s1 i i1 with z | z
      · exact z
      · simp only [i32_le, i32_lt] at *
        omega
    · simp only [i32_le, i32_lt] at *
      omega
theorem SJ_exit {w : Nat → Int32} {F T B b : Int32} {j J : Nat} (s : SJ w F T B j) (hb : b = if B < T then B else T) (hFT : F < T) (hj : j ≤ J) (hJ : 0 < J) (hx : j = J ∨ ¬ F < b) : (F < B → B ≤ bst false w J) ∧ (B < T → bst false w J ≤ B) ∧ 0 ≤ B ∧ B ≤ 100 := by
  obtain ⟨s1, s2, s3, s4⟩ := s
  have hTB : j = J ∨ (B ≤ F ∧ B < T) := by
    rcases hx with q | q
    · exact Or.inl q
    · refine Or.inr ?_
      rw [hb] at q
      by_cases c : B < T
      · rw [if_pos c] at q
        exact ⟨Int32.not_lt.mp q, c⟩
      · rw [if_neg c] at q
        exact absurd hFT q
  have hjp : 0 < j := by
    rcases hTB with q | q
    · omega
    · obtain ⟨i, hi, _⟩ := s2 q.2
      omega
  refine ⟨fun hF => ?_, fun hB => ?_, (s4 hjp).1, (s4 hjp).2⟩
  · rcases hTB with q | q
    · subst q
      obtain ⟨i, i1, i2⟩ := bst_mem (m := false) (w := w) hJ
      rw [i2]
      rcases s1 i i1 with z | z
      · exact z
      · simp only [i32_le, i32_lt] at *
        omega
    · simp only [i32_le, i32_lt] at *
      omega
  · obtain ⟨i, i1, i2⟩ := s2 hB
    have := bst_le (w := w) (k := J) (j := i) (by omega)
    rw [i32_le] at *
    omega
theorem mx_eq {F B v a B' : Int32} (ha : a = if F < B then B else F) (hB : B' = if B < v then v else B) : (if a < v then v else a) = if F < B' then B' else F := by
  subst ha; subst hB
  by_cases c1 : F < B
  · rw [if_pos c1]
    by_cases c2 : B < v
    · have c3 : F < v := by simp only [i32_lt] at *; omega
      rw [if_pos c2, if_pos c3]
    · rw [if_neg c2, if_pos c1]
  · rw [if_neg c1]
    by_cases c2 : B < v
    · rw [if_pos c2]
    · have c3 : ¬ F < v := by simp only [i32_lt] at *; omega
      rw [if_neg c2, if_neg c3, if_neg c1]
theorem mn_eq {T B v b B' : Int32} (hb : b = if B < T then B else T) (hB : B' = if v < B then v else B) : (if v < b then v else b) = if B' < T then B' else T := by
  subst hb; subst hB
  by_cases c1 : B < T
  · rw [if_pos c1]
    by_cases c2 : v < B
    · have c3 : v < T := by simp only [i32_lt] at *; omega
      rw [if_pos c2, if_pos c3]
    · rw [if_neg c2, if_pos c1]
  · rw [if_neg c1]
    by_cases c2 : v < B
    · rw [if_pos c2]
    · have c3 : ¬ v < T := by simp only [i32_lt] at *; omega
      rw [if_neg c2, if_neg c3, if_neg c1]
def FrS (h h' : Pic) : Prop := ∀ k i, ¬ (17 ≤ k ∧ k < 77 ∧ (i = 9 ∨ i = 10)) → h' k i = h k i
theorem FrS.rf {h : Pic} : FrS h h := fun _ _ _ => rfl
theorem FrS.tr {h h1 h2 : Pic} (a : FrS h h1) (b : FrS h1 h2) : FrS h h2 := fun k i z => (b k i z).trans (a k i z)
theorem FrS.repC {G : Gr} {h h' : Pic} (f : FrS h h') (hC : RepC G h) (hn : Gn G ≤ 60) : RepC G h' :=
  hC.fr hn (f 0 1 (by omega)) (fun u i hu hi => f _ _ (by omega)) (fun u i hu => f _ _ (by omega))
theorem FrS.sameM {h h' : Pic} (f : FrS h h') : SameM h h' := fun k h1 h2 => funext fun i => f k i (by omega)
theorem FrS.put {h : Pic} {u i : Nat} {v : Int32} (hu : u < 60) (hi : i = 9 ∨ i = 10) : FrS h (pu h (17 + u) i v) := fun k x q => by
  unfold pu
  rw [if_neg (by omega)]
def BA (G : Gr) (h : Pic) : Prop := ∀ w, w < Gn G → Reach G 0 w → BO G h w
/-- search's promise -/
def SPost (g : Gh) (G : Gr) (h : Pic) (u : Nat) (al be : Int32) : Option Value → Pic → Prop := fun r h' => ∃ v : Int32, r = some (.int v) ∧ FrS h h' ∧ BA G h' ∧ (0 ≤ v ∧ v ≤ 100) ∧ Res al be (VAL G u) v
theorem BA.fr {G : Gr} {h h' : Pic} {u : Nat} (hB : BA G h) (ho : ∀ w i, w ≠ u → h' (17 + w) i = h (17 + w) i) (hu : BO G h' u) : BA G h' := fun w hw hr => by
  by_cases q : w = u
  · subst q; exact hu
  · unfold BO
    rw [ho w 9 q, ho w 10 q]
    exact hB w hw hr
set_option maxHeartbeats 4000000 in
theorem lp_search1 {l : Launch} {R : Room} {args : Array Value} {M : MT} {g : Gh} {Q : State → Prop} {cells slots : Nat} (C : Cx args M g "GameGraph" b_G_search 12) {G : Gr} (E : gOk g ∧ l.stackTraces = false) (hG : Good G) (hs : Sane G) {h0 : Pic} (hC0 : RepC G h0) {u : Nat} (hu : u < Gn G) (hur : Reach G 0 u) (hJ : 0 < jt G u) {al be F T : Int32} (hFT : F < T) {rm : Room} (ihc : ∀ (t : Nat) (h : Pic) (x y : Int32), t < Gn G → Reach G 0 t → rk G t < rk G u → RepC G h → BA G h → x < y → Ct l g y_G_search k_G_search rm [.ref (gA g 0), .ref (gA g (17 + t)), .int x, .int y] h (SPost g G h t x y) (fun _ _ => False)) (hRf : rm.frames + 1 ≤ R.frames ∧ 8 + (12 + 11) + rm.locals ≤ R.locals) (hRc : cells + rm.cells ≤ R.cells ∧ slots + rm.slots ≤ R.slots) (hz : rm.cells = 0 ∧ rm.slots = 0) :
    ∀ (n j : Nat) (h : Pic) (B a : Int32), j ≤ jt G u → jt G u + 1 ≤ j + n → FrS h0 h → BA G h → SI (fun i => VAL G (Gx G u i)) F T B j → a = (if F < B then B else F) → (∀ (h' : Pic) (B : Int32), FrS h0 h' → BA G h' → ((F < B → B ≤ bst true (fun i => VAL G (Gx G u i)) (jt G u)) ∧ (B < T → bst true (fun i => VAL G (Gx G u i)) (jt G u) ≤ B) ∧ 0 ≤ B ∧ B ≤ 100) → V l R args M g 12 Q cells slots h' 230 [(0, .ref (gA g 0)), (1, .ref (gA g (17 + u))), (5, .int B), (6, .int F), (7, .int T)] []) → V l R args M g 12 Q cells slots h 124 [(0, .ref (gA g 0)), (1, .ref (gA g (17 + u))), (2, .int al), (3, .int be), (4, .int 1), (5, .int B), (6, .int F), (7, .int T), (8, .int a), (9, .int T), (10, .int (nI j))] [] := by
  intro n
  induction n with
  | zero => intro j h B a b1 b2; omega
  | succ n ih =>
    intro j h B a b1 b2 hF0 hBA hSI ea kk
    have hn := hG.2.1
    have hC : RepC G h := hF0.repC hC0 hn
    have hj12 := jt_le hG hu
    obtain ⟨e0, e1, e2, e3, e4⟩ := hC.2 u hu
    have hRm : 1 ≤ R.frames ∧ 20 ≤ R.locals := by omega
    have hRk : cells ≤ R.cells ∧ slots ≤ R.slots := by omega
    refine V_iload C d_G_search_124 rfl ?_
    refine V_aload_n C d_G_search_126 rfl ?_
    refine V_getN C u (by omega) 3 (by decide) wn_G_60 rfl rfl d_G_search_127 ?_
    refine V_topi (nI (jt G u)) (e3) ?_
    refine V_icmp_ge C 230 d_G_search_130 (by decide) (fun c1 => ?_) (fun c1 => ?_)
    · have e := le_ge (by omega) (by omega) c1
      have e : j = jt G u := by omega
      refine V_lv [(0, .ref (gA g 0)), (1, .ref (gA g (17 + u))), (5, .int B), (6, .int F), (7, .int T)] rfl ?_
      exact kk h B hF0 hBA (SI_exit hSI ea hFT b1 hJ (Or.inl e))
    · have hl := nle_lt (by omega) (by omega) c1
      refine V_iload C d_G_search_133 rfl ?_
      refine V_iload C d_G_search_135 rfl ?_
      refine V_icmp_ge C 230 d_G_search_137 (by decide) (fun c2 => ?_) (fun c2 => ?_)
      · refine V_lv [(0, .ref (gA g 0)), (1, .ref (gA g (17 + u))), (5, .int B), (6, .int F), (7, .int T)] rfl ?_
        exact kk h B hF0 hBA (SI_exit hSI ea hFT b1 hJ (Or.inr (Int32.not_lt.mpr c2)))
      · have hlt := Int32.not_le.mp c2
        obtain ⟨t, ht⟩ : ∃ t, Gx G u j = t := ⟨_, rfl⟩
        have et : Edge G u t := ⟨hu, j, hl, ht⟩
        have htn := et.lt hG
        have htr := hur.st et
        have hrk := rk_lt hG et (hs.2 t htn htr)
        have e5 : h (77 + u) j = nI t := by rw [e4 j hl, ht]
        refine V_aload_n C d_G_search_140 rfl ?_
        refine V_aload_n C d_G_search_141 rfl ?_
        refine V_getG C 0 (by decide) wf_G_11 rfl rfl d_G_search_142 ?_
        refine V_aload_n C d_G_search_145 rfl ?_
        refine V_getN C u (by omega) 4 (by decide) wn_G_63 rfl rfl d_G_search_146 ?_
        refine V_iload C d_G_search_149 rfl ?_
        refine V_iald C (77 + u) 12 j (by omega) cel_nx rfl (by omega) (by decide) d_G_search_151 ?_
        refine V_topi (nI t) (e5) ?_
        refine V_aald C t rfl (by omega) d_G_search_152 ?_
        refine V_iload C d_G_search_153 rfl ?_
        refine V_iload C d_G_search_155 rfl ?_
        refine V_callV C "GameGraph" (As := [.ref (gA g (17 + t)), .int a, .int T]) (st := []) (ihc t h a T htn htr hrk hC hBA hlt) wc_G_search (fun _ _ => codeIs) wz_G wl_G_124 wi_G_search ws_G_search ⟨by decide, by decide⟩ rfl recvG hRf hRc (Nat.le_of_ble_eq_true rfl) d_G_search_157 (fun r h1 hp => ?_) (fun X h1 hp => hp.elim)
        obtain ⟨v, rfl, f1, hB1, hv, hres⟩ := hp
        rw [hz.1, hz.2]
        refine V_istore C [(0, .ref (gA g 0)), (1, .ref (gA g (17 + u))), (2, .int al), (3, .int be), (4, .int 1), (5, .int B), (6, .int F), (7, .int T), (8, .int a), (9, .int T), (10, .int (nI j)), (11, .int v)] d_G_search_160 (by decide) rfl rfl ?_
        refine V_iload C d_G_search_162 rfl ?_
        refine V_if_eq C 177 d_G_search_164 (by decide) (fun c3 => ?_) (fun c3 => ?_)
        · exact absurd c3 (by decide)
        · refine V_iload C d_G_search_167 rfl ?_
          refine V_iload C d_G_search_169 rfl ?_
          refine V_mmax C ⟨hRm.1, Nat.le_trans (Nat.le_of_ble_eq_true rfl) hRm.2⟩ hRk d_G_search_171 ?_
          refine V_name (fun B' eB => ?_)
          refine V_goto C 184 d_G_search_174 (by decide) ?_
          refine V_istore C [(0, .ref (gA g 0)), (1, .ref (gA g (17 + u))), (2, .int al), (3, .int be), (4, .int 1), (5, .int (B')), (6, .int F), (7, .int T), (8, .int a), (9, .int T), (10, .int (nI j)), (11, .int v)] d_G_search_184 (by decide) rfl rfl ?_
          refine V_iload C d_G_search_186 rfl ?_
          refine V_if_eq C 201 d_G_search_188 (by decide) (fun c4 => ?_) (fun c4 => ?_)
          · exact absurd c4 (by decide)
          · refine V_iload C d_G_search_191 rfl ?_
            refine V_iload C d_G_search_193 rfl ?_
            refine V_mmax C ⟨hRm.1, Nat.le_trans (Nat.le_of_ble_eq_true rfl) hRm.2⟩ hRk d_G_search_195 ?_
            refine V_name (fun a' ea2 => ?_)
            refine V_goto C 203 d_G_search_198 (by decide) ?_
            refine V_istore C [(0, .ref (gA g 0)), (1, .ref (gA g (17 + u))), (2, .int al), (3, .int be), (4, .int 1), (5, .int (B')), (6, .int F), (7, .int T), (8, .int (a')), (9, .int T), (10, .int (nI j)), (11, .int v)] d_G_search_203 (by decide) rfl rfl ?_
            refine V_iload C d_G_search_205 rfl ?_
            refine V_if_eq C 215 d_G_search_207 (by decide) (fun c5 => ?_) (fun c5 => ?_)
            · exact absurd c5 (by decide)
            · refine V_iload C d_G_search_210 rfl ?_
              refine V_goto C 222 d_G_search_212 (by decide) ?_
              refine V_istore C [(0, .ref (gA g 0)), (1, .ref (gA g (17 + u))), (2, .int al), (3, .int be), (4, .int 1), (5, .int (B')), (6, .int F), (7, .int T), (8, .int (a')), (9, .int T), (10, .int (nI j)), (11, .int v)] d_G_search_222 (by decide) rfl rfl ?_
              refine V_iinc C [(0, .ref (gA g 0)), (1, .ref (gA g (17 + u))), (2, .int al), (3, .int be), (4, .int 1), (5, .int (B')), (6, .int F), (7, .int T), (8, .int (a')), (9, .int T), (10, .int (nI (j + 1))), (11, .int v)] d_G_search_224 rfl (nI_1 _) (by decide) rfl rfl ?_
              refine V_goto C 124 d_G_search_227 (by decide) ?_
              refine V_lv [(0, .ref (gA g 0)), (1, .ref (gA g (17 + u))), (2, .int al), (3, .int be), (4, .int 1), (5, .int (B')), (6, .int F), (7, .int T), (8, .int (a')), (9, .int T), (10, .int (nI (j + 1)))] rfl ?_
              exact ih (j + 1) h1 B' a' (by omega) (by omega) (hF0.tr f1) hB1 (SI_step hSI ea hlt (ht ▸ hres) hv eB) (ea2.trans (mx_eq ea eB)) kk
set_option maxHeartbeats 4000000 in
theorem lp_search0 {l : Launch} {R : Room} {args : Array Value} {M : MT} {g : Gh} {Q : State → Prop} {cells slots : Nat} (C : Cx args M g "GameGraph" b_G_search 12) {G : Gr} (E : gOk g ∧ l.stackTraces = false) (hG : Good G) (hs : Sane G) {h0 : Pic} (hC0 : RepC G h0) {u : Nat} (hu : u < Gn G) (hur : Reach G 0 u) (hJ : 0 < jt G u) {al be F T : Int32} (hFT : F < T) {rm : Room} (ihc : ∀ (t : Nat) (h : Pic) (x y : Int32), t < Gn G → Reach G 0 t → rk G t < rk G u → RepC G h → BA G h → x < y → Ct l g y_G_search k_G_search rm [.ref (gA g 0), .ref (gA g (17 + t)), .int x, .int y] h (SPost g G h t x y) (fun _ _ => False)) (hRf : rm.frames + 1 ≤ R.frames ∧ 8 + (12 + 11) + rm.locals ≤ R.locals) (hRc : cells + rm.cells ≤ R.cells ∧ slots + rm.slots ≤ R.slots) (hz : rm.cells = 0 ∧ rm.slots = 0) :
    ∀ (n j : Nat) (h : Pic) (B a : Int32), j ≤ jt G u → jt G u + 1 ≤ j + n → FrS h0 h → BA G h → SJ (fun i => VAL G (Gx G u i)) F T B j → a = (if B < T then B else T) → (∀ (h' : Pic) (B : Int32), FrS h0 h' → BA G h' → ((F < B → B ≤ bst false (fun i => VAL G (Gx G u i)) (jt G u)) ∧ (B < T → bst false (fun i => VAL G (Gx G u i)) (jt G u) ≤ B) ∧ 0 ≤ B ∧ B ≤ 100) → V l R args M g 12 Q cells slots h' 230 [(0, .ref (gA g 0)), (1, .ref (gA g (17 + u))), (5, .int B), (6, .int F), (7, .int T)] []) → V l R args M g 12 Q cells slots h 124 [(0, .ref (gA g 0)), (1, .ref (gA g (17 + u))), (2, .int al), (3, .int be), (4, .int 0), (5, .int B), (6, .int F), (7, .int T), (8, .int F), (9, .int a), (10, .int (nI j))] [] := by
  intro n
  induction n with
  | zero => intro j h B a b1 b2; omega
  | succ n ih =>
    intro j h B a b1 b2 hF0 hBA hSI ea kk
    have hn := hG.2.1
    have hC : RepC G h := hF0.repC hC0 hn
    have hj12 := jt_le hG hu
    obtain ⟨e0, e1, e2, e3, e4⟩ := hC.2 u hu
    have hRm : 1 ≤ R.frames ∧ 20 ≤ R.locals := by omega
    have hRk : cells ≤ R.cells ∧ slots ≤ R.slots := by omega
    refine V_iload C d_G_search_124 rfl ?_
    refine V_aload_n C d_G_search_126 rfl ?_
    refine V_getN C u (by omega) 3 (by decide) wn_G_60 rfl rfl d_G_search_127 ?_
    refine V_topi (nI (jt G u)) (e3) ?_
    refine V_icmp_ge C 230 d_G_search_130 (by decide) (fun c1 => ?_) (fun c1 => ?_)
    · have e := le_ge (by omega) (by omega) c1
      have e : j = jt G u := by omega
      refine V_lv [(0, .ref (gA g 0)), (1, .ref (gA g (17 + u))), (5, .int B), (6, .int F), (7, .int T)] rfl ?_
      exact kk h B hF0 hBA (SJ_exit hSI ea hFT b1 hJ (Or.inl e))
    · have hl := nle_lt (by omega) (by omega) c1
      refine V_iload C d_G_search_133 rfl ?_
      refine V_iload C d_G_search_135 rfl ?_
      refine V_icmp_ge C 230 d_G_search_137 (by decide) (fun c2 => ?_) (fun c2 => ?_)
      · refine V_lv [(0, .ref (gA g 0)), (1, .ref (gA g (17 + u))), (5, .int B), (6, .int F), (7, .int T)] rfl ?_
        exact kk h B hF0 hBA (SJ_exit hSI ea hFT b1 hJ (Or.inr (Int32.not_lt.mpr c2)))
      · have hlt := Int32.not_le.mp c2
        obtain ⟨t, ht⟩ : ∃ t, Gx G u j = t := ⟨_, rfl⟩
        have et : Edge G u t := ⟨hu, j, hl, ht⟩
        have htn := et.lt hG
        have htr := hur.st et
        have hrk := rk_lt hG et (hs.2 t htn htr)
        have e5 : h (77 + u) j = nI t := by rw [e4 j hl, ht]
        refine V_aload_n C d_G_search_140 rfl ?_
        refine V_aload_n C d_G_search_141 rfl ?_
        refine V_getG C 0 (by decide) wf_G_11 rfl rfl d_G_search_142 ?_
        refine V_aload_n C d_G_search_145 rfl ?_
        refine V_getN C u (by omega) 4 (by decide) wn_G_63 rfl rfl d_G_search_146 ?_
        refine V_iload C d_G_search_149 rfl ?_
        refine V_iald C (77 + u) 12 j (by omega) cel_nx rfl (by omega) (by decide) d_G_search_151 ?_
        refine V_topi (nI t) (e5) ?_
        refine V_aald C t rfl (by omega) d_G_search_152 ?_
        refine V_iload C d_G_search_153 rfl ?_
        refine V_iload C d_G_search_155 rfl ?_
        refine V_callV C "GameGraph" (As := [.ref (gA g (17 + t)), .int F, .int a]) (st := []) (ihc t h F a htn htr hrk hC hBA hlt) wc_G_search (fun _ _ => codeIs) wz_G wl_G_124 wi_G_search ws_G_search ⟨by decide, by decide⟩ rfl recvG hRf hRc (Nat.le_of_ble_eq_true rfl) d_G_search_157 (fun r h1 hp => ?_) (fun X h1 hp => hp.elim)
        obtain ⟨v, rfl, f1, hB1, hv, hres⟩ := hp
        rw [hz.1, hz.2]
        refine V_istore C [(0, .ref (gA g 0)), (1, .ref (gA g (17 + u))), (2, .int al), (3, .int be), (4, .int 0), (5, .int B), (6, .int F), (7, .int T), (8, .int F), (9, .int a), (10, .int (nI j)), (11, .int v)] d_G_search_160 (by decide) rfl rfl ?_
        refine V_iload C d_G_search_162 rfl ?_
        refine V_if_eq C 177 d_G_search_164 (by decide) (fun c3 => ?_) (fun c3 => ?_)
        · refine V_iload C d_G_search_177 rfl ?_
          refine V_iload C d_G_search_179 rfl ?_
          refine V_mmin C ⟨hRm.1, Nat.le_trans (Nat.le_of_ble_eq_true rfl) hRm.2⟩ hRk d_G_search_181 ?_
          refine V_name (fun B' eB => ?_)
          refine V_istore C [(0, .ref (gA g 0)), (1, .ref (gA g (17 + u))), (2, .int al), (3, .int be), (4, .int 0), (5, .int (B')), (6, .int F), (7, .int T), (8, .int F), (9, .int a), (10, .int (nI j)), (11, .int v)] d_G_search_184 (by decide) rfl rfl ?_
          refine V_iload C d_G_search_186 rfl ?_
          refine V_if_eq C 201 d_G_search_188 (by decide) (fun c4 => ?_) (fun c4 => ?_)
          · refine V_iload C d_G_search_201 rfl ?_
            refine V_istore C [(0, .ref (gA g 0)), (1, .ref (gA g (17 + u))), (2, .int al), (3, .int be), (4, .int 0), (5, .int (B')), (6, .int F), (7, .int T), (8, .int F), (9, .int a), (10, .int (nI j)), (11, .int v)] d_G_search_203 (by decide) rfl rfl ?_
            refine V_iload C d_G_search_205 rfl ?_
            refine V_if_eq C 215 d_G_search_207 (by decide) (fun c5 => ?_) (fun c5 => ?_)
            · refine V_iload C d_G_search_215 rfl ?_
              refine V_iload C d_G_search_217 rfl ?_
              refine V_mmin C ⟨hRm.1, Nat.le_trans (Nat.le_of_ble_eq_true rfl) hRm.2⟩ hRk d_G_search_219 ?_
              refine V_name (fun a' ea2 => ?_)
              refine V_istore C [(0, .ref (gA g 0)), (1, .ref (gA g (17 + u))), (2, .int al), (3, .int be), (4, .int 0), (5, .int (B')), (6, .int F), (7, .int T), (8, .int F), (9, .int (a')), (10, .int (nI j)), (11, .int v)] d_G_search_222 (by decide) rfl rfl ?_
              refine V_iinc C [(0, .ref (gA g 0)), (1, .ref (gA g (17 + u))), (2, .int al), (3, .int be), (4, .int 0), (5, .int (B')), (6, .int F), (7, .int T), (8, .int F), (9, .int (a')), (10, .int (nI (j + 1))), (11, .int v)] d_G_search_224 rfl (nI_1 _) (by decide) rfl rfl ?_
              refine V_goto C 124 d_G_search_227 (by decide) ?_
              refine V_lv [(0, .ref (gA g 0)), (1, .ref (gA g (17 + u))), (2, .int al), (3, .int be), (4, .int 0), (5, .int (B')), (6, .int F), (7, .int T), (8, .int F), (9, .int (a')), (10, .int (nI (j + 1)))] rfl ?_
              exact ih (j + 1) h1 B' a' (by omega) (by omega) (hF0.tr f1) hB1 (SJ_step hSI ea hlt (ht ▸ hres) hv eB) (ea2.trans (mn_eq ea eB)) kk
            · exact absurd rfl c5
          · exact absurd rfl c4
        · exact absurd rfl c3
theorem lo_up {G : Gr} {h h1 h2 : Pic} {u : Nat} {F T B lo hi : Int32} (hB : BA G h) (hu : u < Gn G) (hur : Reach G 0 u) (elo : lo = if F < B then (if h (17 + u) 9 < B then B else h (17 + u) 9) else h (17 + u) 9) (ehi : hi = if B < T then (if B < h (17 + u) 10 then B else h (17 + u) 10) else h (17 + u) 10) (e1 : h1 = pu h (17 + u) 9 lo) (e2 : h2 = pu h1 (17 + u) 10 hi) (P1 : F < B → B ≤ VAL G u) (P2 : B < T → VAL G u ≤ B) (hB0 : 0 ≤ B ∧ B ≤ 100) : BA G h2 := by
  refine hB.fr (u := u) (fun w i q => by rw [e2, pu_k (by omega), e1, pu_k (by omega)]) ?_
  obtain ⟨b1, b2, b3, b4⟩ := hB u hu hur
  have a9 : h2 (17 + u) 9 = lo := by rw [e2, pu_i (by decide), e1, pu_self]
  have a10 : h2 (17 + u) 10 = hi := by rw [e2, pu_self]
  unfold BO
  rw [a9, a10]
  have k1 : 0 ≤ lo ∧ lo ≤ VAL G u := by
    rw [elo]
    by_cases c : F < B
    · rw [if_pos c]
      by_cases c2 : h (17 + u) 9 < B
      · rw [if_pos c2]; exact ⟨hB0.1, P1 c⟩
      · rw [if_neg c2]; exact ⟨b1, b2⟩
    · rw [if_neg c]; exact ⟨b1, b2⟩
  have k2 : VAL G u ≤ hi ∧ hi ≤ 100 := by
    rw [ehi]
    by_cases c : B < T
    · rw [if_pos c]
      by_cases c2 : B < h (17 + u) 10
      · rw [if_pos c2]; exact ⟨P2 c, hB0.2⟩
      · rw [if_neg c2]; exact ⟨b3, b4⟩
    · rw [if_neg c]; exact ⟨b3, b4⟩
  exact ⟨k1.1, k1.2, k2.1, k2.2⟩
set_option maxHeartbeats 4000000 in
theorem sr_tail {l : Launch} {R : Room} {args : Array Value} {M : MT} {g : Gh} {Q : State → Prop} {cells slots : Nat} (C : Cx args M g "GameGraph" b_G_search 12) {h : Pic} {u : Nat} (hu : u < 60) {B F T : Int32} (hRm : 1 ≤ R.frames ∧ 20 ≤ R.locals) (hRk : cells ≤ R.cells ∧ slots ≤ R.slots) (k : ∀ (h1 h2 : Pic) (lo hi : Int32), lo = (if F < B then (if h (17 + u) 9 < B then B else h (17 + u) 9) else h (17 + u) 9) → hi = (if B < T then (if B < h (17 + u) 10 then B else h (17 + u) 10) else h (17 + u) 10) → h1 = pu h (17 + u) 9 lo → h2 = pu h1 (17 + u) 10 hi → V l R args M g 12 Q cells slots h2 286 [] [.int B]) : V l R args M g 12 Q cells slots h 230 [(0, .ref (gA g 0)), (1, .ref (gA g (17 + u))), (5, .int B), (6, .int F), (7, .int T)] [] := by
  refine V_aload_n C d_G_search_230 rfl ?_
  refine V_iload C d_G_search_231 rfl ?_
  refine V_iload C d_G_search_233 rfl ?_
  refine V_icmp_le C 250 d_G_search_235 (by decide) (fun c1 => ?_) (fun c1 => ?_)
  · refine V_aload_n C d_G_search_250 rfl ?_
    refine V_getN C u hu 9 (by decide) wn_G_81 rfl rfl d_G_search_251 ?_
    refine V_name (fun lo elo => ?_)
    refine V_putN C u hu 9 (by decide) wn_G_81 rfl rfl rfl rfl d_G_search_254 (fun h1 eh1 => ?_)
    refine V_aload_n C d_G_search_257 rfl ?_
    refine V_iload C d_G_search_258 rfl ?_
    refine V_iload C d_G_search_260 rfl ?_
    refine V_icmp_ge C 277 d_G_search_262 (by decide) (fun c2 => ?_) (fun c2 => ?_)
    · refine V_aload_n C d_G_search_277 rfl ?_
      refine V_getN C u hu 10 (by decide) wn_G_84 rfl rfl d_G_search_278 ?_
      refine V_name (fun hi ehi => ?_)
      refine V_putN C u hu 10 (by decide) wn_G_84 rfl rfl rfl rfl d_G_search_281 (fun h2 eh2 => ?_)
      refine V_iload C d_G_search_284 rfl ?_
      refine V_lv [] rfl ?_
      have e10 : h1 (17 + u) 10 = h (17 + u) 10 := by rw [eh1, pu_i (by decide)]
      rw [e10] at ehi
      exact k h1 h2 lo hi (by rw [elo, if_neg (Int32.not_lt.mpr c1)]) (by rw [ehi, if_neg (Int32.not_lt.mpr c2)]) eh1 eh2
    · refine V_aload_n C d_G_search_265 rfl ?_
      refine V_getN C u hu 10 (by decide) wn_G_84 rfl rfl d_G_search_266 ?_
      refine V_iload C d_G_search_269 rfl ?_
      refine V_mmin C ⟨hRm.1, Nat.le_trans (Nat.le_of_ble_eq_true rfl) hRm.2⟩ hRk d_G_search_271 ?_
      refine V_goto C 281 d_G_search_274 (by decide) ?_
      refine V_name (fun hi ehi => ?_)
      refine V_putN C u hu 10 (by decide) wn_G_84 rfl rfl rfl rfl d_G_search_281 (fun h2 eh2 => ?_)
      refine V_iload C d_G_search_284 rfl ?_
      refine V_lv [] rfl ?_
      have e10 : h1 (17 + u) 10 = h (17 + u) 10 := by rw [eh1, pu_i (by decide)]
      rw [e10] at ehi
      exact k h1 h2 lo hi (by rw [elo, if_neg (Int32.not_lt.mpr c1)]) (by rw [ehi, if_pos (Int32.not_le.mp c2)]) eh1 eh2
  · refine V_aload_n C d_G_search_238 rfl ?_
    refine V_getN C u hu 9 (by decide) wn_G_81 rfl rfl d_G_search_239 ?_
    refine V_iload C d_G_search_242 rfl ?_
    refine V_mmax C ⟨hRm.1, Nat.le_trans (Nat.le_of_ble_eq_true rfl) hRm.2⟩ hRk d_G_search_244 ?_
    refine V_goto C 254 d_G_search_247 (by decide) ?_
    refine V_name (fun lo elo => ?_)
    refine V_putN C u hu 9 (by decide) wn_G_81 rfl rfl rfl rfl d_G_search_254 (fun h1 eh1 => ?_)
    refine V_aload_n C d_G_search_257 rfl ?_
    refine V_iload C d_G_search_258 rfl ?_
    refine V_iload C d_G_search_260 rfl ?_
    refine V_icmp_ge C 277 d_G_search_262 (by decide) (fun c2 => ?_) (fun c2 => ?_)
    · refine V_aload_n C d_G_search_277 rfl ?_
      refine V_getN C u hu 10 (by decide) wn_G_84 rfl rfl d_G_search_278 ?_
      refine V_name (fun hi ehi => ?_)
      refine V_putN C u hu 10 (by decide) wn_G_84 rfl rfl rfl rfl d_G_search_281 (fun h2 eh2 => ?_)
      refine V_iload C d_G_search_284 rfl ?_
      refine V_lv [] rfl ?_
      have e10 : h1 (17 + u) 10 = h (17 + u) 10 := by rw [eh1, pu_i (by decide)]
      rw [e10] at ehi
      exact k h1 h2 lo hi (by rw [elo, if_pos (Int32.not_le.mp c1)]) (by rw [ehi, if_neg (Int32.not_lt.mpr c2)]) eh1 eh2
    · refine V_aload_n C d_G_search_265 rfl ?_
      refine V_getN C u hu 10 (by decide) wn_G_84 rfl rfl d_G_search_266 ?_
      refine V_iload C d_G_search_269 rfl ?_
      refine V_mmin C ⟨hRm.1, Nat.le_trans (Nat.le_of_ble_eq_true rfl) hRm.2⟩ hRk d_G_search_271 ?_
      refine V_goto C 281 d_G_search_274 (by decide) ?_
      refine V_name (fun hi ehi => ?_)
      refine V_putN C u hu 10 (by decide) wn_G_84 rfl rfl rfl rfl d_G_search_281 (fun h2 eh2 => ?_)
      refine V_iload C d_G_search_284 rfl ?_
      refine V_lv [] rfl ?_
      have e10 : h1 (17 + u) 10 = h (17 + u) 10 := by rw [eh1, pu_i (by decide)]
      rw [e10] at ehi
      exact k h1 h2 lo hi (by rw [elo, if_pos (Int32.not_le.mp c1)]) (by rw [ehi, if_pos (Int32.not_le.mp c2)]) eh1 eh2
set_option maxHeartbeats 8000000 in
/-- search(s, alpha, beta): by the rank of s -/
theorem c_G_search {l : Launch} {g : Gh} (E : gOk g ∧ l.stackTraces = false) (G : Gr) (hG : Good G) (hs : Sane G) : ∀ (r u : Nat) (h : Pic) (al be : Int32), u < Gn G → Reach G 0 u → rk G u < r → RepC G h → BA G h → al < be →
    Ct l g y_G_search k_G_search (RM (r + 1) 0 0) [.ref (gA g 0), .ref (gA g (17 + u)), .int al, .int be] h (SPost g G h u al be) (fun _ _ => False) := by
  intro r
  induction r with
  | zero => intro u h al be _ _ hr; omega
  | succ r ihr =>
    intro u h al be hu hur hr hC hBA hab
    have hn := hG.2.1
    have hRm : 1 ≤ (RM (r + 1 + 1) 0 0).frames ∧ 20 ≤ (RM (r + 1 + 1) 0 0).locals := by show 1 ≤ r + 1 + 1 ∧ 20 ≤ 40 * (r + 1 + 1); omega
    have hRk : 0 ≤ (RM (r + 1 + 1) 0 0).cells ∧ 0 ≤ (RM (r + 1 + 1) 0 0).slots := ⟨Nat.zero_le _, Nat.zero_le _⟩
    obtain ⟨e0, e1, e2, e3, e4⟩ := hC.2 u hu
    obtain ⟨b1, b2, b3, b4⟩ := hBA u hu hur
    have hVR := VAL_range hG hs (rk G u + 1) u (by omega) hu hur
    have hVE := VAL_eq hG hs hu hur
    have hown := hs.1 u hu hur
    refine Ct_of E.1 E.2 (by decide) (Nat.le_of_ble_eq_true rfl) (fun M C hr hx => ?_)
    have C : Cx _ M g "GameGraph" b_G_search 12 := C
    refine V_lv [(0, .ref (gA g 0)), (1, .ref (gA g (17 + u))), (2, .int al), (3, .int be)] rfl ?_
    refine V_aload_n C d_G_search_0 rfl ?_
    refine V_getN C u (by omega) 9 (by decide) wn_G_81 rfl rfl d_G_search_1 ?_
    refine V_aload_n C d_G_search_4 rfl ?_
    refine V_getN C u (by omega) 10 (by decide) wn_G_84 rfl rfl d_G_search_5 ?_
    refine V_icmp_eq C 19 d_G_search_8 (by decide) (fun c1 => ?_) (fun c1 => ?_)
    · refine V_aload_n C d_G_search_19 rfl ?_
      refine V_getN C u (by omega) 9 (by decide) wn_G_81 rfl rfl d_G_search_20 ?_
      have e : h (17 + u) 9 = VAL G u := Int32.le_antisymm b2 (by rw [c1]; exact b3)
      exact V_iret C hr rfl d_G_search_23 ⟨_, rfl, FrS.rf, hBA, by rw [e]; exact hVR, by rw [e]; exact ⟨fun _ => Int32.le_refl _, fun _ => Int32.le_refl _, fun _ _ => rfl⟩⟩
    · refine V_aload_n C d_G_search_11 rfl ?_
      refine V_getN C u (by omega) 9 (by decide) wn_G_81 rfl rfl d_G_search_12 ?_
      refine V_iload_n C d_G_search_15 rfl ?_
      refine V_icmp_lt C 24 d_G_search_16 (by decide) (fun c2 => ?_) (fun c2 => ?_)
      · refine V_aload_n C d_G_search_24 rfl ?_
        refine V_getN C u (by omega) 10 (by decide) wn_G_84 rfl rfl d_G_search_25 ?_
        refine V_iload_n C d_G_search_28 rfl ?_
        refine V_icmp_gt C 37 d_G_search_29 (by decide) (fun c3 => ?_) (fun c3 => ?_)
        · refine V_aload_n C d_G_search_37 rfl ?_
          refine V_getN C u (by omega) 0 (by decide) wn_G_115 rfl rfl d_G_search_38 ?_
          refine V_if_eq C 65 d_G_search_41 (by decide) (fun c4 => ?_) (fun c4 => ?_)
          · have ho : Gop G u = true := by
              by_cases q : Gop G u = true
              · exact q
              · rw [e0, if_neg q] at c4; exact absurd c4 (by decide)
            have hJ : 0 < jt G u := by
              rcases Nat.eq_zero_or_pos (jt G u) with q | q
              · unfold own at hown; rw [if_pos ho, if_pos q] at hown; exact absurd hown (by decide)
              · exact q
            have hV : VAL G u = bst (decide (1 < Ga G u)) (fun i => VAL G (Gx G u i)) (jt G u) := by rw [hVE]; unfold FV; rw [if_pos ho]
            have ihc : ∀ (t : Nat) (h : Pic) (x y : Int32), t < Gn G → Reach G 0 t → rk G t < rk G u → RepC G h → BA G h → x < y → Ct l g y_G_search k_G_search (RM (r + 1) 0 0) [.ref (gA g 0), .ref (gA g (17 + t)), .int x, .int y] h (SPost g G h t x y) (fun _ _ => False) := fun t h x y q1 q2 q3 q4 q5 q6 => ihr t h x y q1 q2 (by omega) q4 q5 q6
            have hRf : (RM (r + 1) 0 0).frames + 1 ≤ (RM (r + 1 + 1) 0 0).frames ∧ 8 + (12 + 11) + (RM (r + 1) 0 0).locals ≤ (RM (r + 1 + 1) 0 0).locals := by show r + 1 + 1 ≤ r + 1 + 1 ∧ 8 + (12 + 11) + 40 * (r + 1) ≤ 40 * (r + 1 + 1); omega
            refine V_aload_n C d_G_search_65 rfl ?_
            refine V_getN C u (by omega) 1 (by decide) wn_G_118 rfl rfl d_G_search_66 ?_
            refine V_topi (Ga G u) (e1) ?_
            refine V_iconst (v := 1) C d_G_search_69 (by decide) ?_
            refine V_icmp_le C 77 d_G_search_70 (by decide) (fun c5 => ?_) (fun c5 => ?_)
            · refine V_iconst (v := 0) C d_G_search_77 (by decide) ?_
              refine V_istore C [(0, .ref (gA g 0)), (1, .ref (gA g (17 + u))), (2, .int al), (3, .int be), (4, .int 0)] d_G_search_78 (by decide) rfl rfl ?_
              refine V_iload C d_G_search_80 rfl ?_
              refine V_if_eq C 89 d_G_search_82 (by decide) (fun c6 => ?_) (fun c6 => ?_)
              · refine V_bipush (v := 101) C d_G_search_89 (by decide) ?_
                refine V_istore C [(0, .ref (gA g 0)), (1, .ref (gA g (17 + u))), (2, .int al), (3, .int be), (4, .int 0), (5, .int 101)] d_G_search_91 (by decide) rfl rfl ?_
                refine V_iload_n C d_G_search_93 rfl ?_
                refine V_aload_n C d_G_search_94 rfl ?_
                refine V_getN C u (by omega) 9 (by decide) wn_G_81 rfl rfl d_G_search_95 ?_
                refine V_mmax C ⟨hRm.1, Nat.le_trans (Nat.le_of_ble_eq_true rfl) hRm.2⟩ hRk d_G_search_98 ?_
                refine V_name (fun F eF => ?_)
                refine V_istore C [(0, .ref (gA g 0)), (1, .ref (gA g (17 + u))), (2, .int al), (3, .int be), (4, .int 0), (5, .int 101), (6, .int F)] d_G_search_101 (by decide) rfl rfl ?_
                refine V_iload_n C d_G_search_103 rfl ?_
                refine V_aload_n C d_G_search_104 rfl ?_
                refine V_getN C u (by omega) 10 (by decide) wn_G_84 rfl rfl d_G_search_105 ?_
                refine V_mmin C ⟨hRm.1, Nat.le_trans (Nat.le_of_ble_eq_true rfl) hRm.2⟩ hRk d_G_search_108 ?_
                refine V_name (fun T eT => ?_)
                refine V_istore C [(0, .ref (gA g 0)), (1, .ref (gA g (17 + u))), (2, .int al), (3, .int be), (4, .int 0), (5, .int 101), (6, .int F), (7, .int T)] d_G_search_111 (by decide) rfl rfl ?_
                refine V_iload C d_G_search_113 rfl ?_
                refine V_istore C [(0, .ref (gA g 0)), (1, .ref (gA g (17 + u))), (2, .int al), (3, .int be), (4, .int 0), (5, .int 101), (6, .int F), (7, .int T), (8, .int F)] d_G_search_115 (by decide) rfl rfl ?_
                refine V_iload C d_G_search_117 rfl ?_
                refine V_istore C [(0, .ref (gA g 0)), (1, .ref (gA g (17 + u))), (2, .int al), (3, .int be), (4, .int 0), (5, .int 101), (6, .int F), (7, .int T), (8, .int F), (9, .int T)] d_G_search_119 (by decide) rfl rfl ?_
                refine V_iconst (v := 0) C d_G_search_121 (by decide) ?_
                refine V_istore C [(0, .ref (gA g 0)), (1, .ref (gA g (17 + u))), (2, .int al), (3, .int be), (4, .int 0), (5, .int 101), (6, .int F), (7, .int T), (8, .int F), (9, .int T), (10, .int 0)] d_G_search_122 (by decide) rfl rfl ?_
                refine V_lv [(0, .ref (gA g 0)), (1, .ref (gA g (17 + u))), (2, .int al), (3, .int be), (4, .int 0), (5, .int 101), (6, .int F), (7, .int T), (8, .int F), (9, .int T), (10, .int (nI 0))] rfl ?_
                have hlh : h (17 + u) 9 < h (17 + u) 10 := by
                  simp only [i32_le, i32_lt, i32_eq] at *
                  omega
                have hFT : F < T := ab_FT eF eT hlh c2 c3 hab
                have hF0 := ab_F0 eF b1
                have hT1 := ab_T1 eT b4
                have hm : decide (1 < Ga G u) = false := decide_eq_false (Int32.not_lt.mpr c5)
                have eB0 : T = if 101 < T then 101 else T := by
                  rw [if_neg]
                  rw [i32_lt, show (101 : Int32).toInt = 101 from rfl]
                  rw [i32_le, show (100 : Int32).toInt = 100 from rfl] at hT1
                  omega
                refine lp_search0 C E hG hs hC hu hur hJ hFT ihc hRf ⟨Nat.zero_le _, Nat.zero_le _⟩ ⟨rfl, rfl⟩ (jt G u + 1) 0 h 101 T (by omega) (by omega) FrS.rf hBA ⟨fun i hi => by omega, fun q => absurd q (Int32.not_lt.mpr (by simp only [i32_le] at *; have e9 : (101 : Int32).toInt = 101 := rfl; have e8 : (100 : Int32).toInt = 100 := rfl; omega)), fun _ => rfl, fun q => by omega⟩ eB0 (fun h1 B f1 hB1 hP => ?_)
                rw [hm] at hV
                rw [← hV] at hP
                obtain ⟨P1, P2, P3⟩ := hP
                refine sr_tail C (by omega) hRm hRk (fun h2 h3 lo hi elo ehi x1 x2 => ?_)
                exact V_iret C hr rfl d_G_search_286 ⟨B, rfl, f1.tr ((x1 ▸ FrS.put (by omega) (Or.inl rfl)).tr (x2 ▸ FrS.put (by omega) (Or.inr rfl))), lo_up hB1 hu hur elo ehi x1 x2 P1 P2 P3, P3, ab_fin eF eT b2 b3 P1 P2 hab hFT⟩
              · exact absurd rfl c6
            · refine V_iconst (v := 1) C d_G_search_73 (by decide) ?_
              refine V_goto C 78 d_G_search_74 (by decide) ?_
              refine V_istore C [(0, .ref (gA g 0)), (1, .ref (gA g (17 + u))), (2, .int al), (3, .int be), (4, .int 1)] d_G_search_78 (by decide) rfl rfl ?_
              refine V_iload C d_G_search_80 rfl ?_
              refine V_if_eq C 89 d_G_search_82 (by decide) (fun c6 => ?_) (fun c6 => ?_)
              · exact absurd c6 (by decide)
              · refine V_iconst (v := (-1)) C d_G_search_85 (by decide) ?_
                refine V_goto C 91 d_G_search_86 (by decide) ?_
                refine V_istore C [(0, .ref (gA g 0)), (1, .ref (gA g (17 + u))), (2, .int al), (3, .int be), (4, .int 1), (5, .int ((-1)))] d_G_search_91 (by decide) rfl rfl ?_
                refine V_iload_n C d_G_search_93 rfl ?_
                refine V_aload_n C d_G_search_94 rfl ?_
                refine V_getN C u (by omega) 9 (by decide) wn_G_81 rfl rfl d_G_search_95 ?_
                refine V_mmax C ⟨hRm.1, Nat.le_trans (Nat.le_of_ble_eq_true rfl) hRm.2⟩ hRk d_G_search_98 ?_
                refine V_name (fun F eF => ?_)
                refine V_istore C [(0, .ref (gA g 0)), (1, .ref (gA g (17 + u))), (2, .int al), (3, .int be), (4, .int 1), (5, .int ((-1))), (6, .int F)] d_G_search_101 (by decide) rfl rfl ?_
                refine V_iload_n C d_G_search_103 rfl ?_
                refine V_aload_n C d_G_search_104 rfl ?_
                refine V_getN C u (by omega) 10 (by decide) wn_G_84 rfl rfl d_G_search_105 ?_
                refine V_mmin C ⟨hRm.1, Nat.le_trans (Nat.le_of_ble_eq_true rfl) hRm.2⟩ hRk d_G_search_108 ?_
                refine V_name (fun T eT => ?_)
                refine V_istore C [(0, .ref (gA g 0)), (1, .ref (gA g (17 + u))), (2, .int al), (3, .int be), (4, .int 1), (5, .int ((-1))), (6, .int F), (7, .int T)] d_G_search_111 (by decide) rfl rfl ?_
                refine V_iload C d_G_search_113 rfl ?_
                refine V_istore C [(0, .ref (gA g 0)), (1, .ref (gA g (17 + u))), (2, .int al), (3, .int be), (4, .int 1), (5, .int ((-1))), (6, .int F), (7, .int T), (8, .int F)] d_G_search_115 (by decide) rfl rfl ?_
                refine V_iload C d_G_search_117 rfl ?_
                refine V_istore C [(0, .ref (gA g 0)), (1, .ref (gA g (17 + u))), (2, .int al), (3, .int be), (4, .int 1), (5, .int ((-1))), (6, .int F), (7, .int T), (8, .int F), (9, .int T)] d_G_search_119 (by decide) rfl rfl ?_
                refine V_iconst (v := 0) C d_G_search_121 (by decide) ?_
                refine V_istore C [(0, .ref (gA g 0)), (1, .ref (gA g (17 + u))), (2, .int al), (3, .int be), (4, .int 1), (5, .int ((-1))), (6, .int F), (7, .int T), (8, .int F), (9, .int T), (10, .int 0)] d_G_search_122 (by decide) rfl rfl ?_
                refine V_lv [(0, .ref (gA g 0)), (1, .ref (gA g (17 + u))), (2, .int al), (3, .int be), (4, .int 1), (5, .int ((-1))), (6, .int F), (7, .int T), (8, .int F), (9, .int T), (10, .int (nI 0))] rfl ?_
                have hlh : h (17 + u) 9 < h (17 + u) 10 := by
                  simp only [i32_le, i32_lt, i32_eq] at *
                  omega
                have hFT : F < T := ab_FT eF eT hlh c2 c3 hab
                have hF0 := ab_F0 eF b1
                have hT1 := ab_T1 eT b4
                have hm : decide (1 < Ga G u) = true := decide_eq_true (Int32.not_le.mp c5)
                have eB0 : F = if F < -1 then -1 else F := by
                  rw [if_neg]
                  rw [i32_lt, show (-1 : Int32).toInt = -1 from rfl]
                  rw [i32_le, show (0 : Int32).toInt = 0 from rfl] at hF0
                  omega
                refine lp_search1 C E hG hs hC hu hur hJ hFT ihc hRf ⟨Nat.zero_le _, Nat.zero_le _⟩ ⟨rfl, rfl⟩ (jt G u + 1) 0 h (-1) F (by omega) (by omega) FrS.rf hBA ⟨fun i hi => by omega, fun q => absurd q (Int32.not_lt.mpr (by simp only [i32_le] at *; have e9 : (-1 : Int32).toInt = -1 := rfl; have e8 : (0 : Int32).toInt = 0 := rfl; omega)), fun _ => rfl, fun q => by omega⟩ eB0 (fun h1 B f1 hB1 hP => ?_)
                rw [hm] at hV
                rw [← hV] at hP
                obtain ⟨P1, P2, P3⟩ := hP
                refine sr_tail C (by omega) hRm hRk (fun h2 h3 lo hi elo ehi x1 x2 => ?_)
                exact V_iret C hr rfl d_G_search_286 ⟨B, rfl, f1.tr ((x1 ▸ FrS.put (by omega) (Or.inl rfl)).tr (x2 ▸ FrS.put (by omega) (Or.inr rfl))), lo_up hB1 hu hur elo ehi x1 x2 P1 P2 P3, P3, ab_fin eF eT b2 b3 P1 P2 hab hFT⟩
          · have ho : ¬ Gop G u = true := fun q => by rw [e0, if_pos q] at c4; exact c4 rfl
            have hV : VAL G u = Ga G u := by rw [hVE]; unfold FV; rw [if_neg ho]
            refine V_aload_n C d_G_search_44 rfl ?_
            refine V_aload_n C d_G_search_45 rfl ?_
            refine V_getN C u (by omega) 1 (by decide) wn_G_118 rfl rfl d_G_search_46 ?_
            refine V_topi (Ga G u) (e1) ?_
            refine V_putN C u (by omega) 9 (by decide) wn_G_81 rfl rfl rfl rfl d_G_search_49 (fun h1 eh1 => ?_)
            refine V_aload_n C d_G_search_52 rfl ?_
            refine V_aload_n C d_G_search_53 rfl ?_
            refine V_getN C u (by omega) 1 (by decide) wn_G_118 rfl rfl d_G_search_54 ?_
            refine V_topi (Ga G u) (by rw [eh1, pu_i (by decide)]; exact e1) ?_
            refine V_putN C u (by omega) 10 (by decide) wn_G_84 rfl rfl rfl rfl d_G_search_57 (fun h2 eh2 => ?_)
            refine V_aload_n C d_G_search_60 rfl ?_
            refine V_getN C u (by omega) 1 (by decide) wn_G_118 rfl rfl d_G_search_61 ?_
            refine V_topi (Ga G u) (by rw [eh2, pu_i (by decide), eh1, pu_i (by decide)]; exact e1) ?_
            refine V_iret C hr rfl d_G_search_64 ⟨Ga G u, rfl, (eh1 ▸ FrS.put (by omega) (Or.inl rfl)).tr (eh2 ▸ FrS.put (by omega) (Or.inr rfl)), hBA.fr (u := u) (fun w i q => by rw [eh2, pu_k (by omega), eh1, pu_k (by omega)]) ?_, by rw [← hV]; exact hVR, by rw [← hV]; exact ⟨fun _ => Int32.le_refl _, fun _ => Int32.le_refl _, fun _ _ => rfl⟩⟩
            unfold BO
            rw [show h2 (17 + u) 9 = Ga G u by rw [eh2, pu_i (by decide), eh1, pu_self], show h2 (17 + u) 10 = Ga G u by rw [eh2, pu_self], hV]
            rw [hV] at hVR
            exact ⟨hVR.1, Int32.le_refl _, Int32.le_refl _, hVR.2⟩
        · have c3 := Int32.not_lt.mp c3
          refine V_aload_n C d_G_search_32 rfl ?_
          refine V_getN C u (by omega) 10 (by decide) wn_G_84 rfl rfl d_G_search_33 ?_
          refine V_iret C hr rfl d_G_search_36 ⟨_, rfl, FrS.rf, hBA, ?_, fun _ => b3, fun q => ?_, fun q => ?_⟩
          · simp only [i32_le] at *; omega
          · simp only [i32_le, i32_lt] at *; omega
          · exact absurd c3 (Int32.not_le.mpr q)
      · have c2 := Int32.not_lt.mp c2
        refine V_aload_n C d_G_search_19 rfl ?_
        refine V_getN C u (by omega) 9 (by decide) wn_G_81 rfl rfl d_G_search_20 ?_
        refine V_iret C hr rfl d_G_search_23 ⟨_, rfl, FrS.rf, hBA, ?_, fun q => ?_, fun _ => b2, fun _ q => ?_⟩
        · simp only [i32_le] at *; omega
        · simp only [i32_le, i32_lt] at *; omega
        · exact absurd c2 (Int32.not_le.mpr q)
end
section
-- ===== printed by gen/w8.py: valueOf, value, best, length =====
theorem KnC.frS {G : Gr} {h h' : Pic} (hn : Gn G ≤ 60) (k : KnC G h) (f : FrS h h') (hB : BA G h') : KnC G h' := by
  obtain ⟨⟨a, b, c, d⟩, e, z⟩ := k
  refine ⟨⟨f.repC a hn, fun v hv => ?_, fun v hv => ?_, ?_⟩, ?_, fun hs w hw hr => ⟨?_, hB w hw hr⟩⟩
  · unfold flg; rw [f _ _ (by omega)]; exact b v hv
  · rw [f _ _ (by omega)]; exact c v hv
  · rw [f _ _ (by omega)]; exact d
  · rw [f _ _ (by omega), f _ _ (by omega)]; exact e
  · rw [f _ _ (by omega)]; exact (z hs w hw hr).1
/-- the first best move, or -1 -/
def Best (G : Gr) (u : Nat) (r : Int32) : Prop := (∃ j, j < jt G u ∧ r = nI j ∧ VAL G (Gx G u j) = VAL G u ∧ ∀ i, i < j → VAL G (Gx G u i) ≠ VAL G u) ∨ (r = -1 ∧ ∀ i, i < jt G u → VAL G (Gx G u i) ≠ VAL G u)
theorem Best.uniq {G : Gr} {u : Nat} {r r' : Int32} (h : Best G u r) (h' : Best G u r') : r = r' := by
  rcases h with ⟨j, a1, a2, a3, a4⟩ | ⟨a1, a2⟩ <;> rcases h' with ⟨k, b1, b2, b3, b4⟩ | ⟨b1, b2⟩
  · rcases Nat.lt_trichotomy j k with q | q | q
    · exact absurd a3 (b4 j q)
    · rw [a2, b2, q]
    · exact absurd b3 (a4 k q)
  · exact absurd a3 (b2 j a1)
  · exact absurd b3 (a2 k b1)
  · rw [a1, b1]
/-- what a throw of value, best, length says -/
abbrev PXa (G : Gr) (h : Pic) (x : Int32) (X : String) (h' : Pic) : Prop := InvC G h' ∧ SameM h h' ∧ ((X = "java/lang/IllegalStateException" ∧ ¬ Sane G) ∨ (X = "java/lang/IndexOutOfBoundsException" ∧ Sane G ∧ ¬ ∃ u, u < Gn G ∧ x = nI u ∧ Reach G 0 u))
set_option maxHeartbeats 4000000 in
theorem c_G_valueOf {l : Launch} {g : Gh} (E : gOk g ∧ l.stackTraces = false) (G : Gr) (h : Pic) (hG : Good G) (hs : Sane G) (u : Nat) (hu : u < Gn G) (hur : Reach G 0 u) (hC : RepC G h) (hBA : BA G h) : Ct l g y_G_valueOf k_G_valueOf (RM 63 0 0) [.ref (gA g 0), .ref (gA g (17 + u))] h (fun r h' => r = some (.int (VAL G u)) ∧ FrS h h' ∧ BA G h') (fun _ _ => False) := by
  refine Ct_of E.1 E.2 (by decide) (Nat.le_of_ble_eq_true rfl) (fun M C hr hx => ?_)
  have C : Cx _ M g "GameGraph" b_G_valueOf 2 := C
  refine V_lv [(0, .ref (gA g 0)), (1, .ref (gA g (17 + u)))] rfl ?_
  have hrk := rk_bd hu (hs.2 u hu hur)
  have hn := hG.2.1
  refine V_aload_n C d_G_valueOf_0 rfl ?_
  refine V_aload_n C d_G_valueOf_1 rfl ?_
  refine V_iconst (v := (-1)) C d_G_valueOf_2 (by decide) ?_
  refine V_bipush (v := 101) C d_G_valueOf_3 (by decide) ?_
  refine V_callV C "GameGraph" (As := [.ref (gA g (17 + u)), .int ((-1)), .int 101]) (st := []) (c_G_search E G hG hs 61 u h (-1) 101 hu hur (by omega) hC hBA (by decide)) wc_G_search (fun _ _ => codeIs) wz_G wl_G_124 wi_G_search ws_G_search ⟨by decide, by decide⟩ rfl recvG ⟨by decide, by decide⟩ ⟨by decide, by decide⟩ (Nat.le_of_ble_eq_true rfl) d_G_valueOf_5 (fun r h1 hp => ?_) (fun X h1 hp => hp.elim)
  obtain ⟨v, rfl, f1, hB1, hv, hres⟩ := hp
  have e : v = VAL G u := by
    refine hres.2.2 ?_ ?_
    · rw [i32_lt, show (-1 : Int32).toInt = -1 from rfl]; have := hv.1; rw [i32_le, show (0 : Int32).toInt = 0 from rfl] at this; omega
    · rw [i32_lt, show (101 : Int32).toInt = 101 from rfl]; have := hv.2; rw [i32_le, show (100 : Int32).toInt = 100 from rfl] at this; omega
  exact V_iret C hr rfl d_G_valueOf_8 ⟨by rw [e], f1, hB1⟩
set_option maxHeartbeats 4000000 in
theorem c_G_value {l : Launch} {g : Gh} (E : gOk g ∧ l.stackTraces = false) (G : Gr) (h : Pic) (hG : Good G) (hI : InvC G h) (x : Int32) : Ct l g y_G_value k_G_value (RM 80 2 12) [.ref (gA g 0), .int x] h (fun r h' => Sane G ∧ (∃ u, u < Gn G ∧ x = nI u ∧ Reach G 0 u ∧ r = some (.int (VAL G u))) ∧ InvC G h' ∧ SameM h h') (fun X h' => PXa G h x X h') := by
  refine Ct_of E.1 E.2 (by decide) (Nat.le_of_ble_eq_true rfl) (fun M C hr hx => ?_)
  have C : Cx _ M g "GameGraph" b_G_value 2 := C
  refine V_lv [(0, .ref (gA g 0)), (1, .int x)] rfl ?_
  have hn := hG.2.1
  refine V_aload_n C d_G_value_0 rfl ?_
  refine V_aload_n C d_G_value_1 rfl ?_
  refine V_iload_n C d_G_value_2 rfl ?_
  refine V_callV C "GameGraph" (As := [.int x]) (st := [.ref (gA g 0)]) (c_G_findReached E G h hG hI x) wc_G_findReached (fun _ _ => codeIs) wz_G wl_G_131 wi_G_findReached ws_G_findReached ⟨by decide, by decide⟩ rfl recvG ⟨by decide, by decide⟩ ⟨by decide, by decide⟩ (Nat.le_of_ble_eq_true rfl) d_G_value_3 (fun r h1 hp => ?_) (fun X h1 hp => VX_leave C hx hp)
  obtain ⟨hs, ⟨u, hu, rfl, hur, rfl⟩, a1, a2, a3, a4⟩ := hp
  have hBA : BA G h1 := fun w hw hr => (a3.2.2 hs w hw hr).2
  refine V_lv [(0, .ref (gA g 0)), (1, .int (nI u))] rfl ?_
  refine V_callV C "GameGraph" (As := [.ref (gA g (17 + u))]) (st := []) (c_G_valueOf E G h1 hG hs u hu hur a1 hBA) wc_G_valueOf (fun _ _ => codeIs) wz_G wl_G_134 wi_G_valueOf ws_G_valueOf ⟨by decide, by decide⟩ rfl recvG ⟨by decide, by decide⟩ ⟨by decide, by decide⟩ (Nat.le_of_ble_eq_true rfl) d_G_value_6 (fun r h2 hp => ?_) (fun X h1 hp => hp.elim)
  obtain ⟨rfl, f1, hB1⟩ := hp
  exact V_iret C hr rfl d_G_value_9 ⟨hs, ⟨u, hu, rfl, hur, rfl⟩, ⟨f1.repC a1 hn, Or.inr (by rw [f1 0 2 (by omega)]; exact a2), fun _ => a3.frS hn f1 hB1⟩, a4.tr f1.sameM⟩
set_option maxHeartbeats 4000000 in
theorem c_G_length {l : Launch} {g : Gh} (E : gOk g ∧ l.stackTraces = false) (G : Gr) (h : Pic) (hG : Good G) (hI : InvC G h) (x : Int32) : Ct l g y_G_length k_G_length (RM 80 2 12) [.ref (gA g 0), .int x] h (fun r h' => Sane G ∧ (∃ u, u < Gn G ∧ x = nI u ∧ Reach G 0 u ∧ r = some (.int (nI (LEN G u)))) ∧ InvC G h' ∧ SameM h h') (fun X h' => PXa G h x X h') := by
  refine Ct_of E.1 E.2 (by decide) (Nat.le_of_ble_eq_true rfl) (fun M C hr hx => ?_)
  have C : Cx _ M g "GameGraph" b_G_length 2 := C
  refine V_lv [(0, .ref (gA g 0)), (1, .int x)] rfl ?_
  have hn := hG.2.1
  refine V_aload_n C d_G_length_0 rfl ?_
  refine V_iload_n C d_G_length_1 rfl ?_
  refine V_callV C "GameGraph" (As := [.int x]) (st := []) (c_G_findReached E G h hG hI x) wc_G_findReached (fun _ _ => codeIs) wz_G wl_G_131 wi_G_findReached ws_G_findReached ⟨by decide, by decide⟩ rfl recvG ⟨by decide, by decide⟩ ⟨by decide, by decide⟩ (Nat.le_of_ble_eq_true rfl) d_G_length_2 (fun r h1 hp => ?_) (fun X h1 hp => VX_leave C hx hp)
  obtain ⟨hs, ⟨u, hu, rfl, hur, rfl⟩, a1, a2, a3, a4⟩ := hp
  have hBA : BA G h1 := fun w hw hr => (a3.2.2 hs w hw hr).2
  refine V_lv [(0, .ref (gA g 0)), (1, .int (nI u))] rfl ?_
  refine V_getN C u (by omega) 8 (by decide) wn_G_78 rfl rfl d_G_length_5 ?_
  refine V_topi (nI (LEN G u)) ((a3.2.2 hs u hu hur).1) ?_
  exact V_iret C hr rfl d_G_length_8 ⟨hs, ⟨u, hu, rfl, hur, rfl⟩, ⟨a1, Or.inr a2, fun _ => a3⟩, a4⟩
set_option maxHeartbeats 4000000 in
theorem lp_best {l : Launch} {R : Room} {args : Array Value} {M : MT} {g : Gh} {Q : State → Prop} {cells slots : Nat} (C : Cx args M g "GameGraph" b_G_best 5) {G : Gr} (E : gOk g ∧ l.stackTraces = false) (hG : Good G) (hs : Sane G) {h0 : Pic} (hC0 : RepC G h0) {u : Nat} (hu : u < Gn G) (hur : Reach G 0 u) (hRf : 64 ≤ R.frames ∧ 8 + (2 + 11) + 2520 ≤ R.locals) (hRc : cells ≤ R.cells ∧ slots ≤ R.slots) :
    ∀ (n j : Nat) (h : Pic), j ≤ jt G u → jt G u + 1 ≤ j + n → FrS h0 h → BA G h → (∀ i, i < j → VAL G (Gx G u i) ≠ VAL G u) → (∀ (h' : Pic) (r : Int32), FrS h0 h' → BA G h' → Best G u r → V l R args M g 5 Q cells slots h' 65 [] [.int r]) → V l R args M g 5 Q cells slots h 15 [(0, .ref (gA g 0)), (1, .int (nI u)), (2, .ref (gA g (17 + u))), (3, .int (VAL G u)), (4, .int (nI j))] [] := by
  intro n
  induction n with
  | zero => intro j h b1 b2; omega
  | succ n ih =>
    intro j h b1 b2 hF0 hBA hno kk
    have hn := hG.2.1
    have hC : RepC G h := hF0.repC hC0 hn
    have hj12 := jt_le hG hu
    obtain ⟨e0, e1, e2, e3, e4⟩ := hC.2 u hu
    refine V_iload C d_G_best_15 rfl ?_
    refine V_aload_n C d_G_best_17 rfl ?_
    refine V_getN C u (by omega) 3 (by decide) wn_G_60 rfl rfl d_G_best_18 ?_
    refine V_topi (nI (jt G u)) (e3) ?_
    refine V_icmp_ge C 50 d_G_best_21 (by decide) (fun c1 => ?_) (fun c1 => ?_)
    · have e := le_ge (by omega) (by omega) c1
      have e : j = jt G u := by omega
      refine V_iload C d_G_best_50 rfl ?_
      refine V_aload_n C d_G_best_52 rfl ?_
      refine V_getN C u (by omega) 3 (by decide) wn_G_60 rfl rfl d_G_best_53 ?_
      refine V_topi (nI (jt G u)) (e3) ?_
      refine V_icmp_ge C 64 d_G_best_56 (by decide) (fun c2 => ?_) (fun c2 => ?_)
      · refine V_iconst (v := (-1)) C d_G_best_64 (by decide) ?_
        refine V_lv [] rfl ?_
        exact kk h (-1) hF0 hBA (Or.inr ⟨rfl, fun i hi => hno i (by omega)⟩)
      · exact absurd c1 c2
    · have hl := nle_lt (by omega) (by omega) c1
      obtain ⟨t, ht⟩ : ∃ t, Gx G u j = t := ⟨_, rfl⟩
      have et : Edge G u t := ⟨hu, j, hl, ht⟩
      have htn := et.lt hG
      have htr := hur.st et
      have e5 : h (77 + u) j = nI t := by rw [e4 j hl, ht]
      refine V_aload_n C d_G_best_24 rfl ?_
      refine V_aload_n C d_G_best_25 rfl ?_
      refine V_getG C 0 (by decide) wf_G_11 rfl rfl d_G_best_26 ?_
      refine V_aload_n C d_G_best_29 rfl ?_
      refine V_getN C u (by omega) 4 (by decide) wn_G_63 rfl rfl d_G_best_30 ?_
      refine V_iload C d_G_best_33 rfl ?_
      refine V_iald C (77 + u) 12 j (by omega) cel_nx rfl (by omega) (by decide) d_G_best_35 ?_
      refine V_topi (nI t) (e5) ?_
      refine V_aald C t rfl (by omega) d_G_best_36 ?_
      refine V_callV C "GameGraph" (As := [.ref (gA g (17 + t))]) (st := []) (c_G_valueOf E G h hG hs t htn htr hC hBA) wc_G_valueOf (fun _ _ => codeIs) wz_G wl_G_134 wi_G_valueOf ws_G_valueOf ⟨by decide, by decide⟩ rfl recvG hRf hRc (Nat.le_of_ble_eq_true rfl) d_G_best_37 (fun r h1 hp => ?_) (fun X h1 hp => hp.elim)
      obtain ⟨rfl, f1, hB1⟩ := hp
      refine V_iload_n C d_G_best_40 rfl ?_
      refine V_icmp_eq C 50 d_G_best_41 (by decide) (fun c2 => ?_) (fun c2 => ?_)
      · have e3 := (f1.repC hC hn).2 u hu
        have e3 := e3.2.2.2.1
        refine V_iload C d_G_best_50 rfl ?_
        refine V_aload_n C d_G_best_52 rfl ?_
        refine V_getN C u (by omega) 3 (by decide) wn_G_60 rfl rfl d_G_best_53 ?_
        refine V_topi (nI (jt G u)) (e3) ?_
        refine V_icmp_ge C 64 d_G_best_56 (by decide) (fun c3 => ?_) (fun c3 => ?_)
        · exact absurd c3 c1
        · refine V_iload C d_G_best_59 rfl ?_
          refine V_goto C 65 d_G_best_61 (by decide) ?_
          refine V_lv [] rfl ?_
          exact kk h1 (nI j) (hF0.tr f1) hB1 (Or.inl ⟨j, hl, rfl, by rw [ht]; exact c2, hno⟩)
      · refine V_iinc C [(0, .ref (gA g 0)), (1, .int (nI u)), (2, .ref (gA g (17 + u))), (3, .int (VAL G u)), (4, .int (nI (j + 1)))] d_G_best_44 rfl (nI_1 _) (by decide) rfl rfl ?_
        refine V_goto C 15 d_G_best_47 (by decide) ?_
        refine ih (j + 1) h1 (by omega) (by omega) (hF0.tr f1) hB1 (fun i hi => ?_) kk
        by_cases q : i = j
        · subst q; rw [ht]; exact c2
        · exact hno i (by omega)
set_option maxHeartbeats 4000000 in
theorem c_G_best {l : Launch} {g : Gh} (E : gOk g ∧ l.stackTraces = false) (G : Gr) (h : Pic) (hG : Good G) (hI : InvC G h) (x : Int32) : Ct l g y_G_best k_G_best (RM 80 2 12) [.ref (gA g 0), .int x] h (fun r h' => Sane G ∧ (∃ u v, u < Gn G ∧ x = nI u ∧ Reach G 0 u ∧ Best G u v ∧ r = some (.int v)) ∧ InvC G h' ∧ SameM h h') (fun X h' => PXa G h x X h') := by
  refine Ct_of E.1 E.2 (by decide) (Nat.le_of_ble_eq_true rfl) (fun M C hr hx => ?_)
  have C : Cx _ M g "GameGraph" b_G_best 5 := C
  refine V_lv [(0, .ref (gA g 0)), (1, .int x)] rfl ?_
  have hn := hG.2.1
  refine V_aload_n C d_G_best_0 rfl ?_
  refine V_iload_n C d_G_best_1 rfl ?_
  refine V_callV C "GameGraph" (As := [.int x]) (st := []) (c_G_findReached E G h hG hI x) wc_G_findReached (fun _ _ => codeIs) wz_G wl_G_131 wi_G_findReached ws_G_findReached ⟨by decide, by decide⟩ rfl recvG ⟨by decide, by decide⟩ ⟨by decide, by decide⟩ (Nat.le_of_ble_eq_true rfl) d_G_best_2 (fun r h1 hp => ?_) (fun X h1 hp => VX_leave C hx hp)
  obtain ⟨hs, ⟨u, hu, rfl, hur, rfl⟩, a1, a2, a3, a4⟩ := hp
  have hBA : BA G h1 := fun w hw hr => (a3.2.2 hs w hw hr).2
  refine V_lv [(0, .ref (gA g 0)), (1, .int (nI u))] rfl ?_
  refine V_astore_n C [(0, .ref (gA g 0)), (1, .int (nI u)), (2, .ref (gA g (17 + u)))] d_G_best_5 (by decide) rfl rfl ?_
  refine V_aload_n C d_G_best_6 rfl ?_
  refine V_aload_n C d_G_best_7 rfl ?_
  refine V_callV C "GameGraph" (As := [.ref (gA g (17 + u))]) (st := []) (c_G_valueOf E G h1 hG hs u hu hur a1 hBA) wc_G_valueOf (fun _ _ => codeIs) wz_G wl_G_134 wi_G_valueOf ws_G_valueOf ⟨by decide, by decide⟩ rfl recvG ⟨by decide, by decide⟩ ⟨by decide, by decide⟩ (Nat.le_of_ble_eq_true rfl) d_G_best_8 (fun r h2 hp => ?_) (fun X h1 hp => hp.elim)
  obtain ⟨rfl, f1, hB1⟩ := hp
  refine V_istore_n C [(0, .ref (gA g 0)), (1, .int (nI u)), (2, .ref (gA g (17 + u))), (3, .int (VAL G u))] d_G_best_11 (by decide) rfl rfl ?_
  refine V_iconst (v := 0) C d_G_best_12 (by decide) ?_
  refine V_istore C [(0, .ref (gA g 0)), (1, .int (nI u)), (2, .ref (gA g (17 + u))), (3, .int (VAL G u)), (4, .int 0)] d_G_best_13 (by decide) rfl rfl ?_
  refine V_lv [(0, .ref (gA g 0)), (1, .int (nI u)), (2, .ref (gA g (17 + u))), (3, .int (VAL G u)), (4, .int (nI 0))] rfl ?_
  refine lp_best C E hG hs a1 hu hur ⟨by decide, by decide⟩ ⟨by decide, by decide⟩ (jt G u + 1) 0 h2 (by omega) (by omega) f1 hB1 (fun i hi => by omega) (fun h3 v f3 hB3 hb => ?_)
  exact V_iret C hr rfl d_G_best_65 ⟨hs, ⟨u, v, hu, rfl, hur, hb, rfl⟩, ⟨f3.repC a1 hn, Or.inr (by rw [f3 0 2 (by omega)]; exact a2), fun _ => a3.frS hn f3 hB3⟩, a4.tr f3.sameM⟩
end
section
-- ===== printed by gen/w9.py: the model: leaves and what changes it =====
def SameX (h h' : Pic) : Prop := ∀ k, k < 4 ∨ 16 ≤ k → h' k = h k
theorem SameX.rf {h : Pic} : SameX h h := fun _ _ => rfl
theorem SameX.tr {h h1 h2 : Pic} (a : SameX h h1) (b : SameX h1 h2) : SameX h h2 := fun k h1 => (b k h1).trans (a k h1)
theorem SameX.pu {h : Pic} {k i : Nat} {v : Int32} (h1 : 4 ≤ k) (h2 : k ≤ 15) : SameX h (pu h k i v) := fun q hq => pu_row (by omega)
theorem SameX.c {h h' : Pic} (a : SameX h h') : SameC h h' := fun k hk => a k (by omega)
theorem RepM.fr {G : Gr} {h h' : Pic} (hn : Gn G ≤ 60) (hR : RepM G h) (h4 : h' 4 0 = h 4 0) (f : ∀ k i, 5 ≤ k → k ≤ 10 → h' k i = h k i) : RepM G h' := by
  obtain ⟨a, b⟩ := hR
  refine ⟨by rw [h4]; exact a, fun u hu => ?_⟩
  obtain ⟨b1, b2, b3, b4⟩ := b u hu
  refine ⟨by rw [f 5 u (by omega) (by omega)]; exact b1, fun q => ?_, fun q => ?_, fun j hj => ?_⟩
  · rw [f 8 u (by omega) (by omega), f 9 u (by omega) (by omega)]; exact b2 q
  · rw [f 6 u (by omega) (by omega), f 7 u (by omega) (by omega)]; exact b3 q
  · rw [f 10 _ (by omega) (by omega)]; exact b4 j hj
theorem RepM.th {G : Gr} {h : Pic} {v : Int32} (hn : Gn G ≤ 60) (hR : RepM G h) : RepM G (pu h 4 12 v) := hR.fr hn (pu_i (by decide)) (fun k i h1 h2 => pu_k (by omega))
theorem ix_12 {u j : Nat} : (12 : Int32) * nI u + nI j = nI (12 * u + j) := by
  have e : (12 : Int32) = nI 12 := rfl
  rw [e, pk_mul, nI_add]
theorem repM_states {G : Gr} {h h1 h2 h3 : Pic} {m : Nat} (e1 : h1 = pu h 4 12 0) (e2 : h2 = pu h1 4 0 (nI m)) (e3 : ∀ k i, h3 k i = if (5 ≤ k ∧ k ≤ 7) ∧ 0 ≤ i ∧ i < m then (if k = 5 then 0 else 50) else h2 k i) : RepM (gStates G m) h3 ∧ h3 4 12 = 0 ∧ SameX h h3 := by
  refine ⟨⟨?_, fun u hu => ?_⟩, ?_, fun k hk => funext fun i => ?_⟩
  · rw [e3, if_neg (by omega), e2, pu_self]; rfl
  · have hu : u < m := hu
    refine ⟨by rw [e3, if_pos (by omega)]; rfl, fun q => (by cases q), fun _ => ⟨by rw [e3, if_pos (by omega)]; rfl, by rw [e3, if_pos (by omega)]; rfl⟩, fun j hj => ?_⟩
    rw [jt_states] at hj; omega
  · rw [e3, if_neg (by omega), e2, pu_i (by decide), e1, pu_self]
  · rw [e3, if_neg (by omega), e2, pu_k (by omega), e1, pu_k (by omega)]
theorem repM_end {G : Gr} {h h1 h2 h3 h4 : Pic} {u : Nat} {a b : Int32} (hM : RepM G h) (e1 : h1 = pu h 4 12 0) (e2 : h2 = pu h1 5 u 0) (e3 : h3 = pu h2 6 u a) (e4 : h4 = pu h3 7 u b) : RepM (gEnd G u a b) h4 ∧ h4 4 12 = 0 ∧ SameX h h4 := by
  obtain ⟨c1, c2⟩ := hM
  have f : ∀ k i, k ≠ 4 → ¬ ((k = 5 ∨ k = 6 ∨ k = 7) ∧ i = u) → h4 k i = h k i := fun k i q1 q2 => by
    rw [e4, e3, e2, e1]; unfold pu
    rw [if_neg (by omega), if_neg (by omega), if_neg (by omega), if_neg (by omega)]
  refine ⟨⟨?_, fun v hv => ?_⟩, ?_, fun k hk => funext fun i => f k i (by omega) (by omega)⟩
  · rw [e4, pu_k (by decide), e3, pu_k (by decide), e2, pu_k (by decide), e1, pu_i (by decide)]; exact c1
  · have hv : v < Gn G := hv
    obtain ⟨d1, d2, d3, d4⟩ := c2 v hv
    by_cases e : v = u
    · subst e
      refine ⟨?_, fun q => ?_, fun _ => ⟨?_, ?_⟩, fun j hj => ?_⟩
      · rw [e4, pu_k (by decide), e3, pu_k (by decide), e2, pu_self]; simp [gEnd, Gop, upB]
      · simp [gEnd, Gop, upB] at q
      · rw [e4, pu_k (by decide), e3, pu_self]; simp [gEnd, Ga, upd]
      · rw [e4, pu_self]; simp [gEnd, Gb, upd]
      · rw [jt_end_self] at hj; omega
    · have o : Gop (gEnd G u a b) v = Gop G v := by simp [gEnd, Gop, upB, e]
      have oa : Ga (gEnd G u a b) v = Ga G v := by simp [gEnd, Ga, upd, e]
      have ob : Gb (gEnd G u a b) v = Gb G v := by simp [gEnd, Gb, upd, e]
      rw [o, oa, ob, f 5 v (by decide) (by omega), f 6 v (by decide) (by omega), f 7 v (by decide) (by omega), f 8 v (by decide) (by omega), f 9 v (by decide) (by omega)]
      refine ⟨d1, d2, d3, fun j hj => ?_⟩
      rw [jt_end_ne e] at hj
      rw [f 10 _ (by decide) (by omega), d4 j hj]; rfl
  · rw [e4, pu_k (by decide), e3, pu_k (by decide), e2, pu_k (by decide), e1, pu_self]
theorem repM_open {G : Gr} (hG : Good G) {h h1 h2 h3 h4 h5 : Pic} {u : Nat} {a b : Int32} (hab : okOpen a b) (hM : RepM G h) (e1 : h1 = pu h 4 12 0) (e2 : h2 = pu h1 5 u 1) (e3 : h3 = pu h2 8 u a) (e4 : h4 = pu h3 9 u b) (e5 : ∀ k i, h5 k i = if k = 10 ∧ 12 * u + 0 ≤ i ∧ i < 12 * u + 12 then 0 else h4 k i) : RepM (gOpen G u a b) h5 ∧ h5 4 12 = 0 ∧ SameX h h5 := by
  obtain ⟨c1, c2⟩ := hM
  have f : ∀ k i, k ≠ 4 → ¬ ((k = 5 ∨ k = 8 ∨ k = 9) ∧ i = u) → ¬ (k = 10 ∧ 12 * u ≤ i ∧ i < 12 * u + 12) → h5 k i = h k i := fun k i q1 q2 q3 => by
    rw [e5, if_neg (by omega), e4, e3, e2, e1]; unfold pu
    rw [if_neg (by omega), if_neg (by omega), if_neg (by omega), if_neg (by omega)]
  refine ⟨⟨?_, fun v hv => ?_⟩, ?_, fun k hk => funext fun i => f k i (by omega) (by omega) (by omega)⟩
  · rw [e5, if_neg (by omega), e4, pu_k (by decide), e3, pu_k (by decide), e2, pu_k (by decide), e1, pu_i (by decide)]; exact c1
  · have hv : v < Gn G := hv
    obtain ⟨d1, d2, d3, d4⟩ := c2 v hv
    by_cases e : v = u
    · subst e
      refine ⟨?_, fun _ => ⟨?_, ?_⟩, fun q => ?_, fun j hj => ?_⟩
      · rw [e5, if_neg (by omega), e4, pu_k (by decide), e3, pu_k (by decide), e2, pu_self]; simp [gOpen, Gop, upB]
      · rw [e5, if_neg (by omega), e4, pu_k (by decide), e3, pu_self]; simp [gOpen, Ga, upd]
      · rw [e5, if_neg (by omega), e4, pu_self]; simp [gOpen, Gb, upd]
      · simp [gOpen, Gop, upB] at q
      · rw [jt_open_self] at hj
        have := (okOpen_jt hab).2
        rw [e5, if_pos (by omega)]
        simp [gOpen, Gx, nI_0]
    · have o : Gop (gOpen G u a b) v = Gop G v := by simp [gOpen, Gop, upB, e]
      have oa : Ga (gOpen G u a b) v = Ga G v := by simp [gOpen, Ga, upd, e]
      have ob : Gb (gOpen G u a b) v = Gb G v := by simp [gOpen, Gb, upd, e]
      rw [o, oa, ob, f 5 v (by decide) (by omega) (by omega), f 6 v (by decide) (by omega) (by omega), f 7 v (by decide) (by omega) (by omega), f 8 v (by decide) (by omega) (by omega), f 9 v (by decide) (by omega) (by omega)]
      refine ⟨d1, d2, d3, fun j hj => ?_⟩
      rw [jt_open_ne e] at hj
      have := jt_le hG hv
      rw [f 10 _ (by decide) (by omega) (by omega), d4 j hj]
      simp [gOpen, Gx, e]
  · rw [e5, if_neg (by omega), e4, pu_k (by decide), e3, pu_k (by decide), e2, pu_k (by decide), e1, pu_self]
theorem repM_link {G : Gr} (hG : Good G) {h h1 h2 : Pic} {u j t : Nat} (hu : u < Gn G) (hj : j < jt G u) (hM : RepM G h) (e1 : h1 = pu h 4 12 0) (e2 : h2 = pu h1 10 (12 * u + j) (nI t)) : RepM (gLink G u j t) h2 ∧ h2 4 12 = 0 ∧ SameX h h2 := by
  obtain ⟨c1, c2⟩ := hM
  have f : ∀ k i, k ≠ 4 → ¬ (k = 10 ∧ i = 12 * u + j) → h2 k i = h k i := fun k i q1 q2 => by
    rw [e2, e1]; unfold pu
    rw [if_neg (by omega), if_neg (by omega)]
  refine ⟨⟨?_, fun v hv => ?_⟩, ?_, fun k hk => funext fun i => f k i (by omega) (by omega)⟩
  · rw [e2, pu_k (by decide), e1, pu_i (by decide)]; exact c1
  · have hv : v < Gn G := hv
    obtain ⟨d1, d2, d3, d4⟩ := c2 v hv
    have o : Gop (gLink G u j t) v = Gop G v := rfl
    have oa : Ga (gLink G u j t) v = Ga G v := rfl
    have ob : Gb (gLink G u j t) v = Gb G v := rfl
    rw [o, oa, ob, f 5 v (by decide) (by omega), f 6 v (by decide) (by omega), f 7 v (by decide) (by omega), f 8 v (by decide) (by omega), f 9 v (by decide) (by omega)]
    refine ⟨d1, d2, d3, fun i hi => ?_⟩
    have hi : i < jt G v := hi
    have z1 := jt_le hG hv
    have z2 := jt_le hG hu
    by_cases e : v = u ∧ i = j
    · obtain ⟨rfl, rfl⟩ := e
      rw [e2, pu_self]; simp [gLink, Gx]
    · rw [f 10 _ (by decide) (by omega), d4 i hi]; simp [gLink, Gx, e]
  · rw [e2, pu_k (by decide), e1, pu_self]
theorem is_st {n : Nat} {x : Int32} (hn : n ≤ 60) (c1 : ¬ x < 0) (c2 : ¬ nI n ≤ x) : ∃ u, u < n ∧ x = nI u := by
  rw [i32_lt, show (0 : Int32).toInt = 0 from rfl] at c1
  rw [i32_le, nI_toInt (by omega)] at c2
  refine ⟨x.toInt.toNat, by omega, ?_⟩
  rw [i32_eq, nI_toInt (by omega)]
  omega
set_option maxHeartbeats 4000000 in
theorem c_M_thrown {l : Launch} {g : Gh} (E : gOk g ∧ l.stackTraces = false) (h : Pic) : Ct l g y_M_thrown k_M_thrown (RM 1 0 0) [.ref (gA g 4)] h (fun r h' => h' = h ∧ r = some (.int (h 4 12))) (fun _ _ => False) := by
  refine Ct_of E.1 E.2 (by decide) (Nat.le_of_ble_eq_true rfl) (fun M C hr hx => ?_)
  have C : Cx _ M g "GameGraphModel" b_M_thrown 1 := C
  refine V_lv [(0, .ref (gA g 4))] rfl ?_
  refine V_aload_n C d_M_thrown_0 rfl ?_
  refine V_getM C 12 (by decide) wf_M_48 rfl rfl d_M_thrown_1 ?_
  exact V_iret C hr rfl d_M_thrown_4 ⟨rfl, rfl⟩
set_option maxHeartbeats 4000000 in
theorem c_M_isState {l : Launch} {g : Gh} (E : gOk g ∧ l.stackTraces = false) (h : Pic) (n : Nat) (hn : n ≤ 60) (hc : h 4 0 = nI n) (x : Int32) : Ct l g y_M_isState k_M_isState (RM 1 0 0) [.ref (gA g 4), .int x] h (fun r h' => h' = h ∧ ((r = some (.int 1) ∧ ∃ u, u < n ∧ x = nI u) ∨ (r = some (.int 0) ∧ ¬ ∃ u, u < n ∧ x = nI u))) (fun _ _ => False) := by
  refine Ct_of E.1 E.2 (by decide) (Nat.le_of_ble_eq_true rfl) (fun M C hr hx => ?_)
  have C : Cx _ M g "GameGraphModel" b_M_isState 2 := C
  refine V_lv [(0, .ref (gA g 4)), (1, .int x)] rfl ?_
  refine V_iload_n C d_M_isState_0 rfl ?_
  refine V_if_lt C 16 d_M_isState_1 (by decide) (fun c1 => ?_) (fun c1 => ?_)
  · refine V_iconst (v := 0) C d_M_isState_16 (by decide) ?_
    exact V_iret C hr rfl d_M_isState_17 ⟨rfl, Or.inr ⟨rfl, fun ⟨u, h1, h2⟩ => nI_pos (n := u) (by omega) (h2 ▸ c1)⟩⟩
  · refine V_iload_n C d_M_isState_4 rfl ?_
    refine V_aload_n C d_M_isState_5 rfl ?_
    refine V_getM C 0 (by decide) wf_M_7 rfl rfl d_M_isState_6 ?_
    refine V_topi (nI n) (hc) ?_
    refine V_icmp_ge C 16 d_M_isState_9 (by decide) (fun c2 => ?_) (fun c2 => ?_)
    · refine V_iconst (v := 0) C d_M_isState_16 (by decide) ?_
      exact V_iret C hr rfl d_M_isState_17 ⟨rfl, Or.inr ⟨rfl, fun ⟨u, h1, h2⟩ => nI_ge h1 (by omega) (h2 ▸ c2)⟩⟩
    · refine V_iconst (v := 1) C d_M_isState_12 (by decide) ?_
      refine V_goto C 17 d_M_isState_13 (by decide) ?_
      exact V_iret C hr rfl d_M_isState_17 ⟨rfl, Or.inl ⟨rfl, is_st hn c1 c2⟩⟩
set_option maxHeartbeats 4000000 in
theorem c_M_isMany {l : Launch} {g : Gh} (E : gOk g ∧ l.stackTraces = false) (h : Pic) (x : Int32) : Ct l g y_M_isMany k_M_isMany (RM 1 0 0) [.int x] h (fun r h' => h' = h ∧ ((r = some (.int 1) ∧ 0 ≤ x ∧ x ≤ 12) ∨ (r = some (.int 0) ∧ ¬ (0 ≤ x ∧ x ≤ 12)))) (fun _ _ => False) := by
  refine Ct_of E.1 E.2 (by decide) (Nat.le_of_ble_eq_true rfl) (fun M C hr hx => ?_)
  have C : Cx _ M g "GameGraphModel" b_M_isMany 1 := C
  refine V_lv [(0, .int x)] rfl ?_
  refine V_iload_n C d_M_isMany_0 rfl ?_
  refine V_if_lt C 14 d_M_isMany_1 (by decide) (fun c1 => ?_) (fun c1 => ?_)
  · refine V_iconst (v := 0) C d_M_isMany_14 (by decide) ?_
    exact V_iret C hr rfl d_M_isMany_15 ⟨rfl, Or.inr ⟨rfl, fun q => Int32.not_le.mpr c1 q.1⟩⟩
  · refine V_iload_n C d_M_isMany_4 rfl ?_
    refine V_bipush (v := 12) C d_M_isMany_5 (by decide) ?_
    refine V_icmp_gt C 14 d_M_isMany_7 (by decide) (fun c2 => ?_) (fun c2 => ?_)
    · refine V_iconst (v := 0) C d_M_isMany_14 (by decide) ?_
      exact V_iret C hr rfl d_M_isMany_15 ⟨rfl, Or.inr ⟨rfl, fun q => Int32.not_le.mpr c2 q.2⟩⟩
    · refine V_iconst (v := 1) C d_M_isMany_10 (by decide) ?_
      refine V_goto C 15 d_M_isMany_11 (by decide) ?_
      exact V_iret C hr rfl d_M_isMany_15 ⟨rfl, Or.inl ⟨rfl, Int32.not_lt.mp c1, Int32.not_lt.mp c2⟩⟩
set_option maxHeartbeats 4000000 in
theorem c_M_joint {l : Launch} {g : Gh} (E : gOk g ∧ l.stackTraces = false) (G : Gr) (hG : Good G) (h : Pic) (hM : RepM G h) (u : Nat) (hu : u < Gn G) : Ct l g y_M_joint k_M_joint (RM 1 0 0) [.ref (gA g 4), .int (nI u)] h (fun r h' => h' = h ∧ r = some (.int (nI (jt G u)))) (fun _ _ => False) := by
  refine Ct_of E.1 E.2 (by decide) (Nat.le_of_ble_eq_true rfl) (fun M C hr hx => ?_)
  have C : Cx _ M g "GameGraphModel" b_M_joint 2 := C
  refine V_lv [(0, .ref (gA g 4)), (1, .int (nI u))] rfl ?_
  have hn := hG.2.1
  obtain ⟨d1, d2, d3, d4⟩ := hM.2 u hu
  refine V_aload_n C d_M_joint_0 rfl ?_
  refine V_getM C 1 (by decide) wf_M_13 rfl rfl d_M_joint_1 ?_
  refine V_iload_n C d_M_joint_4 rfl ?_
  refine V_zald C 5 60 u (by decide) rfl rfl (by omega) (by decide) d_M_joint_5 ?_
  refine V_if_eq C 25 d_M_joint_6 (by decide) (fun c1 => ?_) (fun c1 => ?_)
  · have ho : ¬ Gop G u = true := fun q => by rw [d1, if_pos q] at c1; exact absurd c1 (by decide)
    refine V_iconst (v := 0) C d_M_joint_25 (by decide) ?_
    exact V_iret C hr rfl d_M_joint_26 ⟨rfl, by unfold jt; rw [if_neg ho]; rfl⟩
  · have ho : Gop G u = true := by
      by_cases q : Gop G u = true
      · exact q
      · rw [d1, if_neg q] at c1; exact absurd rfl c1
    refine V_aload_n C d_M_joint_9 rfl ?_
    refine V_getM C 4 (by decide) wf_M_24 rfl rfl d_M_joint_10 ?_
    refine V_iload_n C d_M_joint_13 rfl ?_
    refine V_iald C 8 60 u (by decide) rfl rfl (by omega) (by decide) d_M_joint_14 ?_
    refine V_aload_n C d_M_joint_15 rfl ?_
    refine V_getM C 5 (by decide) wf_M_27 rfl rfl d_M_joint_16 ?_
    refine V_iload_n C d_M_joint_19 rfl ?_
    refine V_iald C 9 60 u (by decide) rfl rfl (by omega) (by decide) d_M_joint_20 ?_
    refine V_imul C d_M_joint_21 ?_
    refine V_goto C 26 d_M_joint_22 (by decide) ?_
    exact V_iret C hr rfl d_M_joint_26 ⟨rfl, by unfold jt; rw [if_pos ho, (d2 ho).1, (d2 ho).2, ← (okOpen_jt (hG.2.2.1 u hu ho)).1]⟩
set_option maxHeartbeats 4000000 in
theorem c_M_isJoint {l : Launch} {g : Gh} (E : gOk g ∧ l.stackTraces = false) (G : Gr) (hG : Good G) (h : Pic) (hM : RepM G h) (x y : Int32) : Ct l g y_M_isJoint k_M_isJoint (RM 2 0 0) [.ref (gA g 4), .int x, .int y] h (fun r h' => h' = h ∧ ((r = some (.int 1) ∧ ∃ u j, u < Gn G ∧ x = nI u ∧ j < jt G u ∧ y = nI j) ∨ (r = some (.int 0) ∧ ¬ ∃ u j, u < Gn G ∧ x = nI u ∧ j < jt G u ∧ y = nI j))) (fun _ _ => False) := by
  refine Ct_of E.1 E.2 (by decide) (Nat.le_of_ble_eq_true rfl) (fun M C hr hx => ?_)
  have C : Cx _ M g "GameGraphModel" b_M_isJoint 3 := C
  refine V_lv [(0, .ref (gA g 4)), (1, .int x), (2, .int y)] rfl ?_
  have hn := hG.2.1
  refine V_aload_n C d_M_isJoint_0 rfl ?_
  refine V_iload_n C d_M_isJoint_1 rfl ?_
  refine V_callV C "GameGraphModel" (As := [.int x]) (st := []) (c_M_isState E h (Gn G) hn hM.1 x) wc_M_isState (fun _ _ => codeIs) wz_M wl_M_51 wi_M_isState ws_M_isState ⟨by decide, by decide⟩ rfl recvM ⟨by decide, by decide⟩ ⟨by decide, by decide⟩ (Nat.le_of_ble_eq_true rfl) d_M_isJoint_2 (fun r h1 hp => ?_) (fun X h1 hp => hp.elim)
  obtain ⟨rfl, hp⟩ := hp
  rcases hp with ⟨rfl, u, hu, rfl⟩ | ⟨rfl, hno⟩
  · refine V_lv [(0, .ref (gA g 4)), (1, .int (nI u)), (2, .int y)] rfl ?_
    refine V_if_eq C 25 d_M_isJoint_5 (by decide) (fun c1 => ?_) (fun c1 => ?_)
    · exact absurd c1 (by decide)
    · refine V_iload_n C d_M_isJoint_8 rfl ?_
      refine V_if_lt C 25 d_M_isJoint_9 (by decide) (fun c2 => ?_) (fun c2 => ?_)
      · refine V_iconst (v := 0) C d_M_isJoint_25 (by decide) ?_
        refine V_iret C hr rfl d_M_isJoint_26 ⟨rfl, Or.inr ⟨rfl, fun ⟨v, j, v1, v2, v3, v4⟩ => ?_⟩⟩
        have z := jt_le hG v1
        exact nI_pos (n := j) (by omega) (v4 ▸ c2)
      · refine V_iload_n C d_M_isJoint_12 rfl ?_
        refine V_aload_n C d_M_isJoint_13 rfl ?_
        refine V_iload_n C d_M_isJoint_14 rfl ?_
        refine V_callV C "GameGraphModel" (As := [.int (nI u)]) (st := [.int y]) (c_M_joint E G hG h1 hM u hu) wc_M_joint (fun _ _ => codeIs) wz_M wl_M_58 wi_M_joint ws_M_joint ⟨by decide, by decide⟩ rfl recvM ⟨by decide, by decide⟩ ⟨by decide, by decide⟩ (Nat.le_of_ble_eq_true rfl) d_M_isJoint_15 (fun r h2 hp => ?_) (fun X h1 hp => hp.elim)
        obtain ⟨rfl, rfl⟩ := hp
        have z12 := jt_le hG hu
        refine V_icmp_ge C 25 d_M_isJoint_18 (by decide) (fun c3 => ?_) (fun c3 => ?_)
        · refine V_iconst (v := 0) C d_M_isJoint_25 (by decide) ?_
          refine V_iret C hr rfl d_M_isJoint_26 ⟨rfl, Or.inr ⟨rfl, fun ⟨v, j, v1, v2, v3, v4⟩ => ?_⟩⟩
          have e := (nI_eq (by omega) (by omega)).mp v2
          subst e
          exact nI_ge v3 (by omega) (v4 ▸ c3)
        · refine V_iconst (v := 1) C d_M_isJoint_21 (by decide) ?_
          refine V_goto C 26 d_M_isJoint_22 (by decide) ?_
          obtain ⟨j, j1, j2⟩ := is_st (by omega) c2 c3
          exact V_iret C hr rfl d_M_isJoint_26 ⟨rfl, Or.inl ⟨rfl, u, j, hu, rfl, j1, j2⟩⟩
  · refine V_if_eq C 25 d_M_isJoint_5 (by decide) (fun c1 => ?_) (fun c1 => ?_)
    · refine V_iconst (v := 0) C d_M_isJoint_25 (by decide) ?_
      exact V_iret C hr rfl d_M_isJoint_26 ⟨rfl, Or.inr ⟨rfl, fun ⟨v, j, v1, v2, _⟩ => hno ⟨v, v1, v2⟩⟩⟩
    · exact absurd rfl c1
set_option maxHeartbeats 4000000 in
theorem lp_M_states {l : Launch} {R : Room} {args : Array Value} {M : MT} {g : Gh} {Q : State → Prop} {cells slots : Nat} (C : Cx args M g "GameGraphModel" b_M_states 3) {m : Nat} (hm : m ≤ 60) :
    ∀ (n j : Nat) (h : Pic), j ≤ m → m + 1 ≤ j + n → True → (∀ h' : Pic, (∀ k i, h' k i = if (5 ≤ k ∧ k ≤ 7) ∧ j ≤ i ∧ i < m then (if k = 5 then 0 else 50) else h k i) → V l R args M g 3 Q cells slots h' 69 [] []) → V l R args M g 3 Q cells slots h 35 [(0, .ref (gA g 4)), (1, .int (nI m)), (2, .int (nI j))] [] := by
  intro n
  induction n with
  | zero => intro j h b1 b2; omega
  | succ n ih =>
    intro j h b1 b2 _ k
    refine V_iload_n C d_M_states_35 rfl ?_
    refine V_iload_n C d_M_states_36 rfl ?_
    refine V_icmp_ge C 69 d_M_states_37 (by decide) (fun c1 => ?_) (fun c1 => ?_)
    · have e := le_ge (by omega) (by omega) c1
      have e : j = m := by omega
      subst e
      refine V_lv [] rfl ?_
      exact k h (fun k i => by rw [if_neg (by omega)])
    · have hl := nle_lt (by omega) (by omega) c1
      refine V_aload_n C d_M_states_40 rfl ?_
      refine V_getM C 1 (by decide) wf_M_13 rfl rfl d_M_states_41 ?_
      refine V_iload_n C d_M_states_44 rfl ?_
      refine V_iconst (v := 0) C d_M_states_45 (by decide) ?_
      refine V_zast C 5 60 j (by decide) (fun _ => rfl) rfl (by omega) (by decide) (Or.inl rfl) d_M_states_46 (fun h1 eh1 => ?_)
      refine V_aload_n C d_M_states_47 rfl ?_
      refine V_getM C 2 (by decide) wf_M_17 rfl rfl d_M_states_48 ?_
      refine V_iload_n C d_M_states_51 rfl ?_
      refine V_bipush (v := 50) C d_M_states_52 (by decide) ?_
      refine V_iast C 6 60 j (by decide) (fun _ => rfl) rfl (by omega) (by decide) d_M_states_54 (fun h2 eh2 => ?_)
      refine V_aload_n C d_M_states_55 rfl ?_
      refine V_getM C 3 (by decide) wf_M_21 rfl rfl d_M_states_56 ?_
      refine V_iload_n C d_M_states_59 rfl ?_
      refine V_bipush (v := 50) C d_M_states_60 (by decide) ?_
      refine V_iast C 7 60 j (by decide) (fun _ => rfl) rfl (by omega) (by decide) d_M_states_62 (fun h3 eh3 => ?_)
      refine V_iinc C [(0, .ref (gA g 4)), (1, .int (nI m)), (2, .int (nI (j + 1)))] d_M_states_63 rfl (nI_1 _) (by decide) rfl rfl ?_
      refine V_goto C 35 d_M_states_66 (by decide) ?_
      refine ih (j + 1) h3 (by omega) (by omega) trivial (fun h' hs => k h' (fun K i => ?_))
      rw [hs K i, eh3, eh2, eh1]
      unfold pu
      by_cases q : (5 ≤ K ∧ K ≤ 7) ∧ i = j
      · rw [if_neg (by omega), if_pos (show (5 ≤ K ∧ K ≤ 7) ∧ j ≤ i ∧ i < m by omega)]
        obtain ⟨q1, rfl⟩ := q
        rcases (show K = 5 ∨ K = 6 ∨ K = 7 by omega) with rfl | rfl | rfl <;> simp
      · rw [if_neg (show ¬ (K = 7 ∧ i = j) by omega), if_neg (show ¬ (K = 6 ∧ i = j) by omega), if_neg (show ¬ (K = 5 ∧ i = j) by omega)]
        by_cases q2 : (5 ≤ K ∧ K ≤ 7) ∧ j ≤ i ∧ i < m
        · rw [if_pos (show (5 ≤ K ∧ K ≤ 7) ∧ j + 1 ≤ i ∧ i < m by omega), if_pos q2]
        · rw [if_neg (show ¬ ((5 ≤ K ∧ K ≤ 7) ∧ j + 1 ≤ i ∧ i < m) by omega), if_neg q2]
set_option maxHeartbeats 4000000 in
theorem c_M_states {l : Launch} {g : Gh} (E : gOk g ∧ l.stackTraces = false) (G : Gr) (hG : Good G) (h : Pic) (hM : RepM G h) (x : Int32) : Ct l g y_M_states k_M_states (RM 1 0 0) [.ref (gA g 4), .int x] h (fun r h' => r = none ∧ SameX h h' ∧ ((h' 4 12 = 0 ∧ ∃ m, 1 ≤ m ∧ m ≤ 60 ∧ x = nI m ∧ RepM (gStates G m) h') ∨ (h' 4 12 = 1 ∧ ¬ (1 ≤ x ∧ x ≤ 60) ∧ RepM G h'))) (fun _ _ => False) := by
  refine Ct_of E.1 E.2 (by decide) (Nat.le_of_ble_eq_true rfl) (fun M C hr hx => ?_)
  have C : Cx _ M g "GameGraphModel" b_M_states 3 := C
  refine V_lv [(0, .ref (gA g 4)), (1, .int x)] rfl ?_
  have hn := hG.2.1
  refine V_aload_n C d_M_states_0 rfl ?_
  refine V_iload_n C d_M_states_1 rfl ?_
  refine V_iconst (v := 1) C d_M_states_2 (by decide) ?_
  refine V_icmp_lt C 12 d_M_states_3 (by decide) (fun c1 => ?_) (fun c1 => ?_)
  · refine V_iconst (v := 1) C d_M_states_12 (by decide) ?_
    refine V_goto C 17 d_M_states_13 (by decide) ?_
    refine V_putM C 12 (by decide) wf_M_48 rfl rfl rfl rfl d_M_states_17 (fun h1 eh1 => ?_)
    refine V_aload_n C d_M_states_20 rfl ?_
    refine V_getM C 12 (by decide) wf_M_48 rfl rfl d_M_states_21 ?_
    refine V_topi (1) (by rw [eh1, pu_self]) ?_
    refine V_if_eq C 28 d_M_states_24 (by decide) (fun cz => ?_) (fun cz => ?_)
    · exact absurd cz (by decide)
    · exact V_vret C hr d_M_states_27 ⟨rfl, eh1 ▸ SameX.pu (by decide) (by decide), Or.inr ⟨by rw [eh1, pu_self], fun q => Int32.not_le.mpr c1 q.1, eh1 ▸ hM.th hn⟩⟩
  · refine V_iload_n C d_M_states_6 rfl ?_
    refine V_bipush (v := 60) C d_M_states_7 (by decide) ?_
    refine V_icmp_le C 16 d_M_states_9 (by decide) (fun c2 => ?_) (fun c2 => ?_)
    · obtain ⟨m, m1, m2, rfl⟩ := in_1_60 ⟨Int32.not_lt.mp c1, c2⟩
      refine V_lv [(0, .ref (gA g 4)), (1, .int (nI m))] rfl ?_
      refine V_iconst (v := 0) C d_M_states_16 (by decide) ?_
      refine V_putM C 12 (by decide) wf_M_48 rfl rfl rfl rfl d_M_states_17 (fun h1 eh1 => ?_)
      refine V_aload_n C d_M_states_20 rfl ?_
      refine V_getM C 12 (by decide) wf_M_48 rfl rfl d_M_states_21 ?_
      refine V_topi (0) (by rw [eh1, pu_self]) ?_
      refine V_if_eq C 28 d_M_states_24 (by decide) (fun cz => ?_) (fun cz => ?_)
      · refine V_aload_n C d_M_states_28 rfl ?_
        refine V_iload_n C d_M_states_29 rfl ?_
        refine V_putM C 0 (by decide) wf_M_7 rfl rfl rfl rfl d_M_states_30 (fun h2 eh2 => ?_)
        refine V_iconst (v := 0) C d_M_states_33 (by decide) ?_
        refine V_istore_n C [(0, .ref (gA g 4)), (1, .int (nI m)), (2, .int 0)] d_M_states_34 (by decide) rfl rfl ?_
        refine V_lv [(0, .ref (gA g 4)), (1, .int (nI m)), (2, .int (nI 0))] rfl ?_
        refine lp_M_states C m2 (m + 1) 0 h2 (by omega) (by omega) trivial (fun h3 hs => ?_)
        obtain ⟨r1, r2, r3⟩ := repM_states (G := G) eh1 eh2 hs
        exact V_vret C hr d_M_states_69 ⟨rfl, r3, Or.inl ⟨r2, m, m1, m2, rfl, r1⟩⟩
      · exact absurd rfl cz
    · refine V_iconst (v := 1) C d_M_states_12 (by decide) ?_
      refine V_goto C 17 d_M_states_13 (by decide) ?_
      refine V_putM C 12 (by decide) wf_M_48 rfl rfl rfl rfl d_M_states_17 (fun h1 eh1 => ?_)
      refine V_aload_n C d_M_states_20 rfl ?_
      refine V_getM C 12 (by decide) wf_M_48 rfl rfl d_M_states_21 ?_
      refine V_topi (1) (by rw [eh1, pu_self]) ?_
      refine V_if_eq C 28 d_M_states_24 (by decide) (fun cz => ?_) (fun cz => ?_)
      · exact absurd cz (by decide)
      · exact V_vret C hr d_M_states_27 ⟨rfl, eh1 ▸ SameX.pu (by decide) (by decide), Or.inr ⟨by rw [eh1, pu_self], fun q => c2 q.2, eh1 ▸ hM.th hn⟩⟩
set_option maxHeartbeats 4000000 in
theorem c_M_end {l : Launch} {g : Gh} (E : gOk g ∧ l.stackTraces = false) (G : Gr) (hG : Good G) (h : Pic) (hM : RepM G h) (x a b : Int32) : Ct l g y_M_end k_M_end (RM 2 0 0) [.ref (gA g 4), .int x, .int a, .int b] h (fun r h' => r = none ∧ SameX h h' ∧ ((h' 4 12 = 0 ∧ ∃ u, u < Gn G ∧ x = nI u ∧ okEnd a b ∧ RepM (gEnd G u a b) h') ∨ (h' 4 12 = 1 ∧ (¬ ∃ u, u < Gn G ∧ x = nI u) ∧ RepM G h') ∨ (h' 4 12 = 2 ∧ (∃ u, u < Gn G ∧ x = nI u) ∧ ¬ okEnd a b ∧ RepM G h'))) (fun _ _ => False) := by
  refine Ct_of E.1 E.2 (by decide) (Nat.le_of_ble_eq_true rfl) (fun M C hr hx => ?_)
  have C : Cx _ M g "GameGraphModel" b_M_end 4 := C
  refine V_lv [(0, .ref (gA g 4)), (1, .int x), (2, .int a), (3, .int b)] rfl ?_
  have hn := hG.2.1
  refine V_aload_n C d_M_end_0 rfl ?_
  refine V_aload_n C d_M_end_1 rfl ?_
  refine V_iload_n C d_M_end_2 rfl ?_
  refine V_callV C "GameGraphModel" (As := [.int x]) (st := [.ref (gA g 4)]) (c_M_isState E h (Gn G) hn hM.1 x) wc_M_isState (fun _ _ => codeIs) wz_M wl_M_51 wi_M_isState ws_M_isState ⟨by decide, by decide⟩ rfl recvM ⟨by decide, by decide⟩ ⟨by decide, by decide⟩ (Nat.le_of_ble_eq_true rfl) d_M_end_3 (fun r h0 hp => ?_) (fun X h1 hp => hp.elim)
  obtain ⟨rfl, hp⟩ := hp
  rcases hp with ⟨rfl, u, hu, rfl⟩ | ⟨rfl, hno⟩
  · refine V_lv [(0, .ref (gA g 4)), (1, .int (nI u)), (2, .int a), (3, .int b)] rfl ?_
    refine V_if_ne C 13 d_M_end_6 (by decide) (fun c0 => ?_) (fun c0 => ?_)
    · refine V_iload_n C d_M_end_13 rfl ?_
      refine V_bipush (v := (-2)) C d_M_end_14 (by decide) ?_
      refine V_icmp_lt C 37 d_M_end_16 (by decide) (fun c1 => ?_) (fun c1 => ?_)
      · refine V_iconst (v := 2) C d_M_end_37 (by decide) ?_
        refine V_goto C 42 d_M_end_38 (by decide) ?_
        refine V_putM C 12 (by decide) wf_M_48 rfl rfl rfl rfl d_M_end_42 (fun h1 eh1 => ?_)
        refine V_aload_n C d_M_end_45 rfl ?_
        refine V_getM C 12 (by decide) wf_M_48 rfl rfl d_M_end_46 ?_
        refine V_topi (2) (by rw [eh1, pu_self]) ?_
        refine V_if_eq C 53 d_M_end_49 (by decide) (fun cz => ?_) (fun cz => ?_)
        · exact absurd cz (by decide)
        · exact V_vret C hr d_M_end_52 ⟨rfl, eh1 ▸ SameX.pu (by decide) (by decide), Or.inr (Or.inr ⟨by rw [eh1, pu_self], ⟨u, hu, rfl⟩, fun z => Int32.not_le.mpr c1 z.1, eh1 ▸ hM.th hn⟩)⟩
      · refine V_iload_n C d_M_end_19 rfl ?_
        refine V_bipush (v := 100) C d_M_end_20 (by decide) ?_
        refine V_icmp_gt C 37 d_M_end_22 (by decide) (fun c2 => ?_) (fun c2 => ?_)
        · refine V_iconst (v := 2) C d_M_end_37 (by decide) ?_
          refine V_goto C 42 d_M_end_38 (by decide) ?_
          refine V_putM C 12 (by decide) wf_M_48 rfl rfl rfl rfl d_M_end_42 (fun h1 eh1 => ?_)
          refine V_aload_n C d_M_end_45 rfl ?_
          refine V_getM C 12 (by decide) wf_M_48 rfl rfl d_M_end_46 ?_
          refine V_topi (2) (by rw [eh1, pu_self]) ?_
          refine V_if_eq C 53 d_M_end_49 (by decide) (fun cz => ?_) (fun cz => ?_)
          · exact absurd cz (by decide)
          · exact V_vret C hr d_M_end_52 ⟨rfl, eh1 ▸ SameX.pu (by decide) (by decide), Or.inr (Or.inr ⟨by rw [eh1, pu_self], ⟨u, hu, rfl⟩, fun z => Int32.not_le.mpr c2 z.2.1, eh1 ▸ hM.th hn⟩)⟩
        · refine V_iload_n C d_M_end_25 rfl ?_
          refine V_bipush (v := (-2)) C d_M_end_26 (by decide) ?_
          refine V_icmp_lt C 37 d_M_end_28 (by decide) (fun c3 => ?_) (fun c3 => ?_)
          · refine V_iconst (v := 2) C d_M_end_37 (by decide) ?_
            refine V_goto C 42 d_M_end_38 (by decide) ?_
            refine V_putM C 12 (by decide) wf_M_48 rfl rfl rfl rfl d_M_end_42 (fun h1 eh1 => ?_)
            refine V_aload_n C d_M_end_45 rfl ?_
            refine V_getM C 12 (by decide) wf_M_48 rfl rfl d_M_end_46 ?_
            refine V_topi (2) (by rw [eh1, pu_self]) ?_
            refine V_if_eq C 53 d_M_end_49 (by decide) (fun cz => ?_) (fun cz => ?_)
            · exact absurd cz (by decide)
            · exact V_vret C hr d_M_end_52 ⟨rfl, eh1 ▸ SameX.pu (by decide) (by decide), Or.inr (Or.inr ⟨by rw [eh1, pu_self], ⟨u, hu, rfl⟩, fun z => Int32.not_le.mpr c3 z.2.2.1, eh1 ▸ hM.th hn⟩)⟩
          · refine V_iload_n C d_M_end_31 rfl ?_
            refine V_bipush (v := 100) C d_M_end_32 (by decide) ?_
            refine V_icmp_le C 41 d_M_end_34 (by decide) (fun c4 => ?_) (fun c4 => ?_)
            · refine V_iconst (v := 0) C d_M_end_41 (by decide) ?_
              refine V_putM C 12 (by decide) wf_M_48 rfl rfl rfl rfl d_M_end_42 (fun h1 eh1 => ?_)
              refine V_aload_n C d_M_end_45 rfl ?_
              refine V_getM C 12 (by decide) wf_M_48 rfl rfl d_M_end_46 ?_
              refine V_topi (0) (by rw [eh1, pu_self]) ?_
              refine V_if_eq C 53 d_M_end_49 (by decide) (fun cz => ?_) (fun cz => ?_)
              · refine V_aload_n C d_M_end_53 rfl ?_
                refine V_getM C 1 (by decide) wf_M_13 rfl rfl d_M_end_54 ?_
                refine V_iload_n C d_M_end_57 rfl ?_
                refine V_iconst (v := 0) C d_M_end_58 (by decide) ?_
                refine V_zast C 5 60 u (by decide) (fun _ => rfl) rfl (by omega) (by decide) (Or.inl rfl) d_M_end_59 (fun h2 eh2 => ?_)
                refine V_aload_n C d_M_end_60 rfl ?_
                refine V_getM C 2 (by decide) wf_M_17 rfl rfl d_M_end_61 ?_
                refine V_iload_n C d_M_end_64 rfl ?_
                refine V_iload_n C d_M_end_65 rfl ?_
                refine V_iast C 6 60 u (by decide) (fun _ => rfl) rfl (by omega) (by decide) d_M_end_66 (fun h3 eh3 => ?_)
                refine V_aload_n C d_M_end_67 rfl ?_
                refine V_getM C 3 (by decide) wf_M_21 rfl rfl d_M_end_68 ?_
                refine V_iload_n C d_M_end_71 rfl ?_
                refine V_iload_n C d_M_end_72 rfl ?_
                refine V_iast C 7 60 u (by decide) (fun _ => rfl) rfl (by omega) (by decide) d_M_end_73 (fun h4 eh4 => ?_)
                obtain ⟨r1, r2, r3⟩ := repM_end hM eh1 eh2 eh3 eh4
                exact V_vret C hr d_M_end_74 ⟨rfl, r3, Or.inl ⟨r2, u, hu, rfl, ⟨Int32.not_lt.mp c1, Int32.not_lt.mp c2, Int32.not_lt.mp c3, c4⟩, r1⟩⟩
              · exact absurd rfl cz
            · refine V_iconst (v := 2) C d_M_end_37 (by decide) ?_
              refine V_goto C 42 d_M_end_38 (by decide) ?_
              refine V_putM C 12 (by decide) wf_M_48 rfl rfl rfl rfl d_M_end_42 (fun h1 eh1 => ?_)
              refine V_aload_n C d_M_end_45 rfl ?_
              refine V_getM C 12 (by decide) wf_M_48 rfl rfl d_M_end_46 ?_
              refine V_topi (2) (by rw [eh1, pu_self]) ?_
              refine V_if_eq C 53 d_M_end_49 (by decide) (fun cz => ?_) (fun cz => ?_)
              · exact absurd cz (by decide)
              · exact V_vret C hr d_M_end_52 ⟨rfl, eh1 ▸ SameX.pu (by decide) (by decide), Or.inr (Or.inr ⟨by rw [eh1, pu_self], ⟨u, hu, rfl⟩, fun z => c4 z.2.2.2, eh1 ▸ hM.th hn⟩)⟩
    · exact absurd c0 (by decide)
  · refine V_if_ne C 13 d_M_end_6 (by decide) (fun c0 => ?_) (fun c0 => ?_)
    · exact absurd rfl c0
    · refine V_iconst (v := 1) C d_M_end_9 (by decide) ?_
      refine V_goto C 42 d_M_end_10 (by decide) ?_
      refine V_putM C 12 (by decide) wf_M_48 rfl rfl rfl rfl d_M_end_42 (fun h1 eh1 => ?_)
      refine V_aload_n C d_M_end_45 rfl ?_
      refine V_getM C 12 (by decide) wf_M_48 rfl rfl d_M_end_46 ?_
      refine V_topi (1) (by rw [eh1, pu_self]) ?_
      refine V_if_eq C 53 d_M_end_49 (by decide) (fun cz => ?_) (fun cz => ?_)
      · exact absurd cz (by decide)
      · exact V_vret C hr d_M_end_52 ⟨rfl, eh1 ▸ SameX.pu (by decide) (by decide), Or.inr (Or.inl ⟨by rw [eh1, pu_self], hno, eh1 ▸ hM.th hn⟩)⟩
set_option maxHeartbeats 4000000 in
theorem lp_M_open {l : Launch} {R : Room} {args : Array Value} {M : MT} {g : Gh} {Q : State → Prop} {cells slots : Nat} (C : Cx args M g "GameGraphModel" b_M_open 5) {u : Nat} (hu : u < 60) :
    ∀ (n j : Nat) (h : Pic), j ≤ 12 → 13 ≤ j + n → True → (∀ h' : Pic, (∀ k i, h' k i = if k = 10 ∧ 12 * u + j ≤ i ∧ i < 12 * u + 12 then 0 else h k i) → V l R args M g 5 Q cells slots h' 101 [] []) → V l R args M g 5 Q cells slots h 75 [(0, .ref (gA g 4)), (1, .int (nI u)), (4, .int (nI j))] [] := by
  intro n
  induction n with
  | zero => intro j h b1 b2; omega
  | succ n ih =>
    intro j h b1 b2 _ k
    refine V_iload C d_M_open_75 rfl ?_
    refine V_bipush (v := 12) C d_M_open_77 (by decide) ?_
    refine V_topi (nI 12) (rfl) ?_
    refine V_icmp_ge C 101 d_M_open_79 (by decide) (fun c1 => ?_) (fun c1 => ?_)
    · have e := le_ge (by omega) (by omega) c1
      have e : j = 12 := by omega
      subst e
      refine V_lv [] rfl ?_
      exact k h (fun k i => by rw [if_neg (by omega)])
    · have hl := nle_lt (by omega) (by omega) c1
      refine V_aload_n C d_M_open_82 rfl ?_
      refine V_getM C 6 (by decide) wf_M_30 rfl rfl d_M_open_83 ?_
      refine V_bipush (v := 12) C d_M_open_86 (by decide) ?_
      refine V_iload_n C d_M_open_88 rfl ?_
      refine V_imul C d_M_open_89 ?_
      refine V_iload C d_M_open_90 rfl ?_
      refine V_iadd C d_M_open_92 ?_
      refine V_topi (nI (12 * u + j)) (ix_12) ?_
      refine V_iconst (v := 0) C d_M_open_93 (by decide) ?_
      refine V_iast C 10 720 (12 * u + j) (by decide) (fun _ => rfl) rfl (by omega) (by decide) d_M_open_94 (fun h1 eh1 => ?_)
      refine V_iinc C [(0, .ref (gA g 4)), (1, .int (nI u)), (4, .int (nI (j + 1)))] d_M_open_95 rfl (nI_1 _) (by decide) rfl rfl ?_
      refine V_goto C 75 d_M_open_98 (by decide) ?_
      refine ih (j + 1) h1 (by omega) (by omega) trivial (fun h' hs => k h' (fun K i => ?_))
      rw [hs K i, eh1]
      unfold pu
      by_cases q : K = 10 ∧ i = 12 * u + j
      · rw [if_neg (by omega), if_pos q, if_pos (by omega)]
      · rw [if_neg q]
        by_cases q2 : K = 10 ∧ 12 * u + j ≤ i ∧ i < 12 * u + 12
        · rw [if_pos (by omega), if_pos q2]
        · rw [if_neg (by omega), if_neg q2]
set_option maxHeartbeats 4000000 in
theorem c_M_open {l : Launch} {g : Gh} (E : gOk g ∧ l.stackTraces = false) (G : Gr) (hG : Good G) (h : Pic) (hM : RepM G h) (x a b : Int32) : Ct l g y_M_open k_M_open (RM 2 0 0) [.ref (gA g 4), .int x, .int a, .int b] h (fun r h' => r = none ∧ SameX h h' ∧ ((h' 4 12 = 0 ∧ ∃ u, u < Gn G ∧ x = nI u ∧ okOpen a b ∧ RepM (gOpen G u a b) h') ∨ (h' 4 12 = 1 ∧ (¬ ∃ u, u < Gn G ∧ x = nI u) ∧ RepM G h') ∨ (h' 4 12 = 2 ∧ (∃ u, u < Gn G ∧ x = nI u) ∧ ¬ okOpen a b ∧ RepM G h'))) (fun _ _ => False) := by
  refine Ct_of E.1 E.2 (by decide) (Nat.le_of_ble_eq_true rfl) (fun M C hr hx => ?_)
  have C : Cx _ M g "GameGraphModel" b_M_open 5 := C
  refine V_lv [(0, .ref (gA g 4)), (1, .int x), (2, .int a), (3, .int b)] rfl ?_
  have hn := hG.2.1
  refine V_aload_n C d_M_open_0 rfl ?_
  refine V_aload_n C d_M_open_1 rfl ?_
  refine V_iload_n C d_M_open_2 rfl ?_
  refine V_callV C "GameGraphModel" (As := [.int x]) (st := [.ref (gA g 4)]) (c_M_isState E h (Gn G) hn hM.1 x) wc_M_isState (fun _ _ => codeIs) wz_M wl_M_51 wi_M_isState ws_M_isState ⟨by decide, by decide⟩ rfl recvM ⟨by decide, by decide⟩ ⟨by decide, by decide⟩ (Nat.le_of_ble_eq_true rfl) d_M_open_3 (fun r h0 hp => ?_) (fun X h1 hp => hp.elim)
  obtain ⟨rfl, hp⟩ := hp
  rcases hp with ⟨rfl, u, hu, rfl⟩ | ⟨rfl, hno⟩
  · refine V_lv [(0, .ref (gA g 4)), (1, .int (nI u)), (2, .int a), (3, .int b)] rfl ?_
    refine V_if_ne C 13 d_M_open_6 (by decide) (fun c0 => ?_) (fun c0 => ?_)
    · refine V_iload_n C d_M_open_13 rfl ?_
      refine V_callS C (As := [.int a]) (st := [.ref (gA g 4)]) (c_M_isMany E h0 a) wc_M_isMany (fun _ _ => codeIs) wz_M wl_M_55 wt_M_isMany ⟨by decide, by decide⟩ rfl ⟨by decide, by decide⟩ ⟨by decide, by decide⟩ (Nat.le_of_ble_eq_true rfl) d_M_open_14 (fun r h00 hp => ?_) (fun X h1 hp => hp.elim)
      obtain ⟨rfl, hp⟩ := hp
      rcases hp with ⟨rfl, ha⟩ | ⟨rfl, hna⟩
      · refine V_if_eq C 35 d_M_open_17 (by decide) (fun c1 => ?_) (fun c1 => ?_)
        · exact absurd c1 (by decide)
        · refine V_iload_n C d_M_open_20 rfl ?_
          refine V_callS C (As := [.int b]) (st := [.ref (gA g 4)]) (c_M_isMany E h00 b) wc_M_isMany (fun _ _ => codeIs) wz_M wl_M_55 wt_M_isMany ⟨by decide, by decide⟩ rfl ⟨by decide, by decide⟩ ⟨by decide, by decide⟩ (Nat.le_of_ble_eq_true rfl) d_M_open_21 (fun r h01 hp => ?_) (fun X h1 hp => hp.elim)
          obtain ⟨rfl, hp⟩ := hp
          rcases hp with ⟨rfl, hb⟩ | ⟨rfl, hnb⟩
          · refine V_if_eq C 35 d_M_open_24 (by decide) (fun c2 => ?_) (fun c2 => ?_)
            · exact absurd c2 (by decide)
            · refine V_iload_n C d_M_open_27 rfl ?_
              refine V_iload_n C d_M_open_28 rfl ?_
              refine V_imul C d_M_open_29 ?_
              refine V_bipush (v := 12) C d_M_open_30 (by decide) ?_
              refine V_icmp_le C 39 d_M_open_32 (by decide) (fun c3 => ?_) (fun c3 => ?_)
              · have hok : okOpen a b := okOpen_iff.mpr ⟨ha, hb, c3⟩
                refine V_iconst (v := 0) C d_M_open_39 (by decide) ?_
                refine V_putM C 12 (by decide) wf_M_48 rfl rfl rfl rfl d_M_open_40 (fun h1 eh1 => ?_)
                refine V_aload_n C d_M_open_43 rfl ?_
                refine V_getM C 12 (by decide) wf_M_48 rfl rfl d_M_open_44 ?_
                refine V_topi (0) (by rw [eh1, pu_self]) ?_
                refine V_if_eq C 51 d_M_open_47 (by decide) (fun cz => ?_) (fun cz => ?_)
                · refine V_aload_n C d_M_open_51 rfl ?_
                  refine V_getM C 1 (by decide) wf_M_13 rfl rfl d_M_open_52 ?_
                  refine V_iload_n C d_M_open_55 rfl ?_
                  refine V_iconst (v := 1) C d_M_open_56 (by decide) ?_
                  refine V_zast C 5 60 u (by decide) (fun _ => rfl) rfl (by omega) (by decide) (Or.inr rfl) d_M_open_57 (fun h2 eh2 => ?_)
                  refine V_aload_n C d_M_open_58 rfl ?_
                  refine V_getM C 4 (by decide) wf_M_24 rfl rfl d_M_open_59 ?_
                  refine V_iload_n C d_M_open_62 rfl ?_
                  refine V_iload_n C d_M_open_63 rfl ?_
                  refine V_iast C 8 60 u (by decide) (fun _ => rfl) rfl (by omega) (by decide) d_M_open_64 (fun h3 eh3 => ?_)
                  refine V_aload_n C d_M_open_65 rfl ?_
                  refine V_getM C 5 (by decide) wf_M_27 rfl rfl d_M_open_66 ?_
                  refine V_iload_n C d_M_open_69 rfl ?_
                  refine V_iload_n C d_M_open_70 rfl ?_
                  refine V_iast C 9 60 u (by decide) (fun _ => rfl) rfl (by omega) (by decide) d_M_open_71 (fun h4 eh4 => ?_)
                  refine V_iconst (v := 0) C d_M_open_72 (by decide) ?_
                  refine V_istore C [(0, .ref (gA g 4)), (1, .int (nI u)), (2, .int a), (3, .int b), (4, .int 0)] d_M_open_73 (by decide) rfl rfl ?_
                  refine V_lv [(0, .ref (gA g 4)), (1, .int (nI u)), (4, .int (nI 0))] rfl ?_
                  refine lp_M_open C (u := u) (by omega) 13 0 h4 (by omega) (by omega) trivial (fun h5 hs => ?_)
                  obtain ⟨r1, r2, r3⟩ := repM_open hG hok hM eh1 eh2 eh3 eh4 hs
                  exact V_vret C hr d_M_open_101 ⟨rfl, r3, Or.inl ⟨r2, u, hu, rfl, hok, r1⟩⟩
                · exact absurd rfl cz
              · refine V_iconst (v := 2) C d_M_open_35 (by decide) ?_
                refine V_goto C 40 d_M_open_36 (by decide) ?_
                refine V_putM C 12 (by decide) wf_M_48 rfl rfl rfl rfl d_M_open_40 (fun h1 eh1 => ?_)
                refine V_aload_n C d_M_open_43 rfl ?_
                refine V_getM C 12 (by decide) wf_M_48 rfl rfl d_M_open_44 ?_
                refine V_topi (2) (by rw [eh1, pu_self]) ?_
                refine V_if_eq C 51 d_M_open_47 (by decide) (fun cz => ?_) (fun cz => ?_)
                · exact absurd cz (by decide)
                · exact V_vret C hr d_M_open_50 ⟨rfl, eh1 ▸ SameX.pu (by decide) (by decide), Or.inr (Or.inr ⟨by rw [eh1, pu_self], ⟨u, hu, rfl⟩, fun z => c3 (okOpen_iff.mp z).2.2, eh1 ▸ hM.th hn⟩)⟩
          · refine V_if_eq C 35 d_M_open_24 (by decide) (fun c2 => ?_) (fun c2 => ?_)
            · refine V_iconst (v := 2) C d_M_open_35 (by decide) ?_
              refine V_goto C 40 d_M_open_36 (by decide) ?_
              refine V_putM C 12 (by decide) wf_M_48 rfl rfl rfl rfl d_M_open_40 (fun h1 eh1 => ?_)
              refine V_aload_n C d_M_open_43 rfl ?_
              refine V_getM C 12 (by decide) wf_M_48 rfl rfl d_M_open_44 ?_
              refine V_topi (2) (by rw [eh1, pu_self]) ?_
              refine V_if_eq C 51 d_M_open_47 (by decide) (fun cz => ?_) (fun cz => ?_)
              · exact absurd cz (by decide)
              · exact V_vret C hr d_M_open_50 ⟨rfl, eh1 ▸ SameX.pu (by decide) (by decide), Or.inr (Or.inr ⟨by rw [eh1, pu_self], ⟨u, hu, rfl⟩, fun z => hnb (okOpen_iff.mp z).2.1, eh1 ▸ hM.th hn⟩)⟩
            · exact absurd rfl c2
      · refine V_if_eq C 35 d_M_open_17 (by decide) (fun c1 => ?_) (fun c1 => ?_)
        · refine V_iconst (v := 2) C d_M_open_35 (by decide) ?_
          refine V_goto C 40 d_M_open_36 (by decide) ?_
          refine V_putM C 12 (by decide) wf_M_48 rfl rfl rfl rfl d_M_open_40 (fun h1 eh1 => ?_)
          refine V_aload_n C d_M_open_43 rfl ?_
          refine V_getM C 12 (by decide) wf_M_48 rfl rfl d_M_open_44 ?_
          refine V_topi (2) (by rw [eh1, pu_self]) ?_
          refine V_if_eq C 51 d_M_open_47 (by decide) (fun cz => ?_) (fun cz => ?_)
          · exact absurd cz (by decide)
          · exact V_vret C hr d_M_open_50 ⟨rfl, eh1 ▸ SameX.pu (by decide) (by decide), Or.inr (Or.inr ⟨by rw [eh1, pu_self], ⟨u, hu, rfl⟩, fun z => hna (okOpen_iff.mp z).1, eh1 ▸ hM.th hn⟩)⟩
        · exact absurd rfl c1
    · exact absurd c0 (by decide)
  · refine V_if_ne C 13 d_M_open_6 (by decide) (fun c0 => ?_) (fun c0 => ?_)
    · exact absurd rfl c0
    · refine V_iconst (v := 1) C d_M_open_9 (by decide) ?_
      refine V_goto C 40 d_M_open_10 (by decide) ?_
      refine V_putM C 12 (by decide) wf_M_48 rfl rfl rfl rfl d_M_open_40 (fun h1 eh1 => ?_)
      refine V_aload_n C d_M_open_43 rfl ?_
      refine V_getM C 12 (by decide) wf_M_48 rfl rfl d_M_open_44 ?_
      refine V_topi (1) (by rw [eh1, pu_self]) ?_
      refine V_if_eq C 51 d_M_open_47 (by decide) (fun cz => ?_) (fun cz => ?_)
      · exact absurd cz (by decide)
      · exact V_vret C hr d_M_open_50 ⟨rfl, eh1 ▸ SameX.pu (by decide) (by decide), Or.inr (Or.inl ⟨by rw [eh1, pu_self], hno, eh1 ▸ hM.th hn⟩)⟩
set_option maxHeartbeats 4000000 in
theorem c_M_link {l : Launch} {g : Gh} (E : gOk g ∧ l.stackTraces = false) (G : Gr) (hG : Good G) (h : Pic) (hM : RepM G h) (x y z : Int32) : Ct l g y_M_link k_M_link (RM 3 0 0) [.ref (gA g 4), .int x, .int y, .int z] h (fun r h' => r = none ∧ SameX h h' ∧ ((h' 4 12 = 0 ∧ ∃ u j t, u < Gn G ∧ x = nI u ∧ j < jt G u ∧ y = nI j ∧ t < Gn G ∧ z = nI t ∧ RepM (gLink G u j t) h') ∨ (h' 4 12 = 1 ∧ (¬ ∃ u j t, u < Gn G ∧ x = nI u ∧ j < jt G u ∧ y = nI j ∧ t < Gn G ∧ z = nI t) ∧ RepM G h'))) (fun _ _ => False) := by
  refine Ct_of E.1 E.2 (by decide) (Nat.le_of_ble_eq_true rfl) (fun M C hr hx => ?_)
  have C : Cx _ M g "GameGraphModel" b_M_link 4 := C
  refine V_lv [(0, .ref (gA g 4)), (1, .int x), (2, .int y), (3, .int z)] rfl ?_
  have hn := hG.2.1
  refine V_aload_n C d_M_link_0 rfl ?_
  refine V_aload_n C d_M_link_1 rfl ?_
  refine V_iload_n C d_M_link_2 rfl ?_
  refine V_iload_n C d_M_link_3 rfl ?_
  refine V_callV C "GameGraphModel" (As := [.int x, .int y]) (st := [.ref (gA g 4)]) (c_M_isJoint E G hG h hM x y) wc_M_isJoint (fun _ _ => codeIs) wz_M wl_M_62 wi_M_isJoint ws_M_isJoint ⟨by decide, by decide⟩ rfl recvM ⟨by decide, by decide⟩ ⟨by decide, by decide⟩ (Nat.le_of_ble_eq_true rfl) d_M_link_4 (fun r h0 hp => ?_) (fun X h1 hp => hp.elim)
  obtain ⟨rfl, hp⟩ := hp
  rcases hp with ⟨rfl, u, j, hu, rfl, hj, rfl⟩ | ⟨rfl, hno⟩
  · refine V_lv [(0, .ref (gA g 4)), (1, .int (nI u)), (2, .int (nI j)), (3, .int z)] rfl ?_
    have z12 := jt_le hG hu
    refine V_if_eq C 22 d_M_link_7 (by decide) (fun c0 => ?_) (fun c0 => ?_)
    · exact absurd c0 (by decide)
    · refine V_aload_n C d_M_link_10 rfl ?_
      refine V_iload_n C d_M_link_11 rfl ?_
      refine V_callV C "GameGraphModel" (As := [.int z]) (st := [.ref (gA g 4)]) (c_M_isState E h0 (Gn G) hn hM.1 z) wc_M_isState (fun _ _ => codeIs) wz_M wl_M_51 wi_M_isState ws_M_isState ⟨by decide, by decide⟩ rfl recvM ⟨by decide, by decide⟩ ⟨by decide, by decide⟩ (Nat.le_of_ble_eq_true rfl) d_M_link_12 (fun r h00 hp => ?_) (fun X h1 hp => hp.elim)
      obtain ⟨rfl, hp⟩ := hp
      rcases hp with ⟨rfl, t, ht, rfl⟩ | ⟨rfl, hno⟩
      · refine V_lv [(0, .ref (gA g 4)), (1, .int (nI u)), (2, .int (nI j)), (3, .int (nI t))] rfl ?_
        refine V_if_eq C 22 d_M_link_15 (by decide) (fun c1 => ?_) (fun c1 => ?_)
        · exact absurd c1 (by decide)
        · refine V_iconst (v := 0) C d_M_link_18 (by decide) ?_
          refine V_goto C 23 d_M_link_19 (by decide) ?_
          refine V_putM C 12 (by decide) wf_M_48 rfl rfl rfl rfl d_M_link_23 (fun h1 eh1 => ?_)
          refine V_aload_n C d_M_link_26 rfl ?_
          refine V_getM C 12 (by decide) wf_M_48 rfl rfl d_M_link_27 ?_
          refine V_topi (0) (by rw [eh1, pu_self]) ?_
          refine V_if_ne C 45 d_M_link_30 (by decide) (fun cz => ?_) (fun cz => ?_)
          · exact absurd rfl cz
          · refine V_aload_n C d_M_link_33 rfl ?_
            refine V_getM C 6 (by decide) wf_M_30 rfl rfl d_M_link_34 ?_
            refine V_bipush (v := 12) C d_M_link_37 (by decide) ?_
            refine V_iload_n C d_M_link_39 rfl ?_
            refine V_imul C d_M_link_40 ?_
            refine V_iload_n C d_M_link_41 rfl ?_
            refine V_iadd C d_M_link_42 ?_
            refine V_topi (nI (12 * u + j)) (ix_12) ?_
            refine V_iload_n C d_M_link_43 rfl ?_
            refine V_iast C 10 720 (12 * u + j) (by decide) (fun _ => rfl) rfl (by omega) (by decide) d_M_link_44 (fun h2 eh2 => ?_)
            obtain ⟨r1, r2, r3⟩ := repM_link hG hu hj hM eh1 eh2
            exact V_vret C hr d_M_link_45 ⟨rfl, r3, Or.inl ⟨r2, u, j, t, hu, rfl, hj, rfl, ht, rfl, r1⟩⟩
      · refine V_if_eq C 22 d_M_link_15 (by decide) (fun c1 => ?_) (fun c1 => ?_)
        · refine V_iconst (v := 1) C d_M_link_22 (by decide) ?_
          refine V_putM C 12 (by decide) wf_M_48 rfl rfl rfl rfl d_M_link_23 (fun h1 eh1 => ?_)
          refine V_aload_n C d_M_link_26 rfl ?_
          refine V_getM C 12 (by decide) wf_M_48 rfl rfl d_M_link_27 ?_
          refine V_topi (1) (by rw [eh1, pu_self]) ?_
          refine V_if_ne C 45 d_M_link_30 (by decide) (fun cz => ?_) (fun cz => ?_)
          · exact V_vret C hr d_M_link_45 ⟨rfl, eh1 ▸ SameX.pu (by decide) (by decide), Or.inr ⟨by rw [eh1, pu_self], fun ⟨_, _, t, _, _, _, _, q1, q2⟩ => hno ⟨t, q1, q2⟩, eh1 ▸ hM.th hn⟩⟩
          · exact absurd cz (by decide)
        · exact absurd rfl c1
  · refine V_if_eq C 22 d_M_link_7 (by decide) (fun c0 => ?_) (fun c0 => ?_)
    · refine V_iconst (v := 1) C d_M_link_22 (by decide) ?_
      refine V_putM C 12 (by decide) wf_M_48 rfl rfl rfl rfl d_M_link_23 (fun h1 eh1 => ?_)
      refine V_aload_n C d_M_link_26 rfl ?_
      refine V_getM C 12 (by decide) wf_M_48 rfl rfl d_M_link_27 ?_
      refine V_topi (1) (by rw [eh1, pu_self]) ?_
      refine V_if_ne C 45 d_M_link_30 (by decide) (fun cz => ?_) (fun cz => ?_)
      · exact V_vret C hr d_M_link_45 ⟨rfl, eh1 ▸ SameX.pu (by decide) (by decide), Or.inr ⟨by rw [eh1, pu_self], fun ⟨u, j, _, q1, q2, q3, q4, _, _⟩ => hno ⟨u, j, q1, q2, q3, q4⟩, eh1 ▸ hM.th hn⟩⟩
      · exact absurd cz (by decide)
    · exact absurd rfl c0
set_option maxHeartbeats 4000000 in
theorem c_M_next {l : Launch} {g : Gh} (E : gOk g ∧ l.stackTraces = false) (G : Gr) (hG : Good G) (h : Pic) (hM : RepM G h) (x y : Int32) : Ct l g y_M_next k_M_next (RM 3 0 0) [.ref (gA g 4), .int x, .int y] h (fun r h' => SameX h h' ∧ RepM G h' ∧ ∃ v, r = some (.int v) ∧ ((h' 4 12 = 0 ∧ ∃ u j, u < Gn G ∧ x = nI u ∧ j < jt G u ∧ y = nI j ∧ v = nI (Gx G u j)) ∨ (h' 4 12 = 1 ∧ ¬ ∃ u j, u < Gn G ∧ x = nI u ∧ j < jt G u ∧ y = nI j))) (fun _ _ => False) := by
  refine Ct_of E.1 E.2 (by decide) (Nat.le_of_ble_eq_true rfl) (fun M C hr hx => ?_)
  have C : Cx _ M g "GameGraphModel" b_M_next 3 := C
  refine V_lv [(0, .ref (gA g 4)), (1, .int x), (2, .int y)] rfl ?_
  have hn := hG.2.1
  refine V_aload_n C d_M_next_0 rfl ?_
  refine V_aload_n C d_M_next_1 rfl ?_
  refine V_iload_n C d_M_next_2 rfl ?_
  refine V_iload_n C d_M_next_3 rfl ?_
  refine V_callV C "GameGraphModel" (As := [.int x, .int y]) (st := [.ref (gA g 4)]) (c_M_isJoint E G hG h hM x y) wc_M_isJoint (fun _ _ => codeIs) wz_M wl_M_62 wi_M_isJoint ws_M_isJoint ⟨by decide, by decide⟩ rfl recvM ⟨by decide, by decide⟩ ⟨by decide, by decide⟩ (Nat.le_of_ble_eq_true rfl) d_M_next_4 (fun r h0 hp => ?_) (fun X h1 hp => hp.elim)
  obtain ⟨rfl, hp⟩ := hp
  rcases hp with ⟨rfl, u, j, hu, rfl, hj, rfl⟩ | ⟨rfl, hno⟩
  · refine V_lv [(0, .ref (gA g 4)), (1, .int (nI u)), (2, .int (nI j))] rfl ?_
    have z12 := jt_le hG hu
    refine V_if_eq C 14 d_M_next_7 (by decide) (fun c0 => ?_) (fun c0 => ?_)
    · exact absurd c0 (by decide)
    · refine V_iconst (v := 0) C d_M_next_10 (by decide) ?_
      refine V_goto C 15 d_M_next_11 (by decide) ?_
      refine V_putM C 12 (by decide) wf_M_48 rfl rfl rfl rfl d_M_next_15 (fun h1 eh1 => ?_)
      refine V_aload_n C d_M_next_18 rfl ?_
      refine V_getM C 12 (by decide) wf_M_48 rfl rfl d_M_next_19 ?_
      refine V_topi (0) (by rw [eh1, pu_self]) ?_
      refine V_if_eq C 29 d_M_next_22 (by decide) (fun cz => ?_) (fun cz => ?_)
      · refine V_aload_n C d_M_next_29 rfl ?_
        refine V_getM C 6 (by decide) wf_M_30 rfl rfl d_M_next_30 ?_
        refine V_bipush (v := 12) C d_M_next_33 (by decide) ?_
        refine V_iload_n C d_M_next_35 rfl ?_
        refine V_imul C d_M_next_36 ?_
        refine V_iload_n C d_M_next_37 rfl ?_
        refine V_iadd C d_M_next_38 ?_
        refine V_topi (nI (12 * u + j)) (ix_12) ?_
        refine V_iald C 10 720 (12 * u + j) (by decide) rfl rfl (by omega) (by decide) d_M_next_39 ?_
        have hM1 : RepM G h1 := eh1 ▸ hM.th hn
        exact V_iret C hr rfl d_M_next_40 ⟨eh1 ▸ SameX.pu (by decide) (by decide), hM1, _, rfl, Or.inl ⟨by rw [eh1, pu_self], u, j, hu, rfl, hj, rfl, (hM1.2 u hu).2.2.2 j hj⟩⟩
      · exact absurd rfl cz
  · refine V_if_eq C 14 d_M_next_7 (by decide) (fun c0 => ?_) (fun c0 => ?_)
    · refine V_iconst (v := 1) C d_M_next_14 (by decide) ?_
      refine V_putM C 12 (by decide) wf_M_48 rfl rfl rfl rfl d_M_next_15 (fun h1 eh1 => ?_)
      refine V_aload_n C d_M_next_18 rfl ?_
      refine V_getM C 12 (by decide) wf_M_48 rfl rfl d_M_next_19 ?_
      refine V_topi (1) (by rw [eh1, pu_self]) ?_
      refine V_if_eq C 29 d_M_next_22 (by decide) (fun cz => ?_) (fun cz => ?_)
      · exact absurd cz (by decide)
      · refine V_iconst (v := 0) C d_M_next_25 (by decide) ?_
        refine V_goto C 40 d_M_next_26 (by decide) ?_
        exact V_iret C hr rfl d_M_next_40 ⟨eh1 ▸ SameX.pu (by decide) (by decide), eh1 ▸ hM.th hn, _, rfl, Or.inr ⟨by rw [eh1, pu_self], hno⟩⟩
    · exact absurd rfl c0
end
section
-- ===== printed by gen/w10.py: the model: spread, reach, reached, own, comesAgain, defective, defect =====
def In (s : Nat) (h : Pic) (v : Nat) : Prop := h s v = 1
def B01 (s : Nat) (h : Pic) : Prop := ∀ v, v < 60 → h s v = 0 ∨ h s v = 1
def FrT (s : Nat) (h h' : Pic) : Prop := ∀ k i, k ≠ s → h' k i = h k i
theorem FrT.rf {s : Nat} {h : Pic} : FrT s h h := fun _ _ _ => rfl
theorem FrT.tr {s : Nat} {h h1 h2 : Pic} (a : FrT s h h1) (b : FrT s h1 h2) : FrT s h h2 := fun k i q => (b k i q).trans (a k i q)
theorem FrT.put {s i : Nat} {h : Pic} {v : Int32} : FrT s h (pu h s i v) := fun _ _ q => pu_k q
theorem FrT.repM {G : Gr} {s : Nat} {h h' : Pic} (hn : Gn G ≤ 60) (hs : 11 ≤ s) (f : FrT s h h') (hM : RepM G h) : RepM G h' := hM.fr hn (f 4 0 (by omega)) (fun k i h1 h2 => f k i (by omega))
theorem B01.put {s i : Nat} {h : Pic} {v : Int32} (hb : B01 s h) (hv : v = 0 ∨ v = 1) : B01 s (pu h s i v) := fun w hw => by
  unfold pu
  by_cases q : s = s ∧ w = i
  · rw [if_pos q]; exact hv
  · rw [if_neg q]; exact hb w hw
theorem In.put {s i v : Nat} {h : Pic} : In s (pu h s i 1) v ↔ In s h v ∨ v = i := by
  unfold In pu
  by_cases q : v = i
  · rw [if_pos ⟨rfl, q⟩]; exact ⟨fun _ => Or.inr q, fun _ => rfl⟩
  · rw [if_neg (fun z => q z.2)]; exact ⟨Or.inl, fun z => z.resolve_right q⟩
/-- within a round of spread: h0 its start, state u's move j -/
def SpI (G : Gr) (s : Nat) (h0 h : Pic) (u j : Nat) : Prop := FrT s h0 h ∧ B01 s h ∧ (∀ v, v < Gn G → In s h0 v → In s h v) ∧ (∀ v, v < Gn G → In s h v → ∃ w, w < Gn G ∧ In s h0 w ∧ Reach G w v) ∧ (∀ w v, w < u → In s h0 w → Edge G w v → In s h v) ∧ (∀ i, i < j → i < jt G u → In s h0 u → In s h (Gx G u i))
theorem SpI.ini {G : Gr} {s : Nat} {h : Pic} (hb : B01 s h) : SpI G s h h 0 0 := ⟨FrT.rf, hb, fun _ _ q => q, fun v hv q => ⟨v, hv, q, Reach.rf⟩, fun w v hw => by omega, fun i hi => by omega⟩
theorem SpI.step {G : Gr} {s : Nat} {h0 h h1 : Pic} {u j : Nat} (I : SpI G s h0 h u j) (hu : u < Gn G) (hin : In s h u) (hj : j < jt G u) (e : h1 = pu h s (Gx G u j) 1) : SpI G s h0 h1 u (j + 1) := by
  obtain ⟨a1, a2, a3, a4, a5, a6⟩ := I
  subst e
  refine ⟨a1.tr FrT.put, a2.put (Or.inr rfl), fun v hv q => In.put.mpr (Or.inl (a3 v hv q)), fun v hv q => ?_, fun w v hw hi he => In.put.mpr (Or.inl (a5 w v hw hi he)), fun i hi hij hin0 => ?_⟩
  · rcases In.put.mp q with q | q
    · exact a4 v hv q
    · obtain ⟨w, w1, w2, w3⟩ := a4 u hu hin
      subst q
      exact ⟨w, w1, w2, w3.st (edge_of hu hj)⟩
  · by_cases q : i = j
    · subst q; exact In.put.mpr (Or.inr rfl)
    · exact In.put.mpr (Or.inl (a6 i (by omega) hij hin0))
theorem SpI.exit {G : Gr} {s : Nat} {h0 h : Pic} {u j : Nat} (I : SpI G s h0 h u j) (hu : u < Gn G) (hx : jt G u ≤ j ∨ ¬ In s h u) : SpI G s h0 h (u + 1) 0 := by
  obtain ⟨a1, a2, a3, a4, a5, a6⟩ := I
  refine ⟨a1, a2, a3, a4, fun w v hw hi he => ?_, fun i hi => by omega⟩
  by_cases q : w = u
  · subst q
    rcases hx with hx | hx
    · obtain ⟨_, i, i1, i2⟩ := he
      subst i2
      exact a6 i (by omega) i1 hi
    · exact absurd (a3 w hu hi) hx
  · exact a5 w v (by omega) hi he
/-- between rounds: h0 the start of it all -/
def SpR (G : Gr) (s : Nat) (h0 h : Pic) (r : Nat) : Prop := FrT s h0 h ∧ B01 s h ∧ (∀ v, v < Gn G → In s h0 v → In s h v) ∧ (∀ v, v < Gn G → In s h v → ∃ w, w < Gn G ∧ In s h0 w ∧ Reach G w v) ∧ ((∀ w v, w < Gn G → In s h w → Edge G w v → In s h v) ∨ r ≤ cnt (In s h) (Gn G))
theorem SpR.ini {G : Gr} {s : Nat} {h : Pic} (hb : B01 s h) : SpR G s h h 0 := ⟨FrT.rf, hb, fun _ _ q => q, fun v hv q => ⟨v, hv, q, Reach.rf⟩, Or.inr (Nat.zero_le _)⟩
theorem closed_reach {G : Gr} (hG : Good G) {P : Nat → Prop} (hc : ∀ w v, w < Gn G → P w → Edge G w v → P v) {w v : Nat} (hw : w < Gn G) (hp : P w) (hr : Reach G w v) : P v :=
  (hr (fun x => x < Gn G ∧ P x) ⟨hw, hp⟩ (fun a b ha e => ⟨e.lt hG, hc a b ha.1 ha.2 e⟩)).2
theorem SpR.step {G : Gr} (hG : Good G) {s : Nat} {h0 h h1 : Pic} {r : Nat} (I : SpR G s h0 h r) (S : SpI G s h h1 (Gn G) 0) : SpR G s h0 h1 (r + 1) := by
  obtain ⟨a1, a2, a3, a4, a5⟩ := I
  obtain ⟨b1, b2, b3, b4, b5, _⟩ := S
  refine ⟨a1.tr b1, b2, fun v hv q => b3 v hv (a3 v hv q), fun v hv q => ?_, ?_⟩
  · obtain ⟨w, w1, w2, w3⟩ := b4 v hv q
    obtain ⟨x, x1, x2, x3⟩ := a4 w w1 w2
    exact ⟨x, x1, x2, x3.tr w3⟩
  · by_cases hc : ∀ w v, w < Gn G → In s h w → Edge G w v → In s h v
    · refine Or.inl (fun w v hw hi he => ?_)
      obtain ⟨x, x1, x2, x3⟩ := b4 w hw hi
      exact b3 v (he.lt hG) (hc w v hw (closed_reach hG hc x1 x2 x3) he)
    · refine Or.inr ?_
      have hr := a5.resolve_left hc
      have : ∃ w v, w < Gn G ∧ In s h w ∧ Edge G w v ∧ ¬ In s h v := Classical.byContradiction fun q => hc fun w v h1 h2 h3 => Classical.byContradiction fun z => q ⟨w, v, h1, h2, h3, z⟩
      obtain ⟨w, v, q1, q2, q3, q4⟩ := this
      have := cnt_strict (P := In s h) (Q := In s h1) (n := Gn G) b3 (q3.lt hG) (b5 w v q1 q2 q3) q4
      omega
theorem SpR.fin {G : Gr} (hG : Good G) {s : Nat} {h0 h : Pic} (I : SpR G s h0 h (Gn G)) : ∀ v, v < Gn G → (In s h v ↔ ∃ w, w < Gn G ∧ In s h0 w ∧ Reach G w v) := by
  obtain ⟨a1, a2, a3, a4, a5⟩ := I
  intro v hv
  refine ⟨a4 v hv, fun ⟨w, w1, w2, w3⟩ => ?_⟩
  rcases a5 with a5 | a5
  · exact closed_reach hG a5 w1 (a3 w w1 w2) w3
  · exact cnt_full a5 hv
theorem jt_zero {a b : Int32} (h : okOpen a b) : (a * b).toNatClampNeg = 0 ↔ a = 0 ∨ b = 0 := by
  obtain ⟨p, q, rfl, rfl, hp, hq, hm⟩ := h
  rw [pk_mul, nI_clamp (by omega), Nat.mul_eq_zero]
  have e : (0 : Int32) = nI 0 := nI_0.symm
  rw [e, nI_eq (by omega) (by omega), nI_eq (by omega) (by omega)]
set_option maxHeartbeats 4000000 in
theorem lp_spA11 {l : Launch} {R : Room} {args : Array Value} {M : MT} {g : Gh} {Q : State → Prop} {cells slots : Nat} (C : Cx args M g "GameGraphModel" b_M_spread 5) {G : Gr} (E : gOk g ∧ l.stackTraces = false) (hG : Good G) {h0 : Pic} (hM0 : RepM G h0) {r u : Nat} (hu : u < Gn G) (hRf : 2 ≤ R.frames ∧ 8 + (2 + 11) + 40 ≤ R.locals) (hRc : cells ≤ R.cells ∧ slots ≤ R.slots) :
    ∀ (n j : Nat) (h : Pic), j ≤ jt G u → jt G u + 1 ≤ j + n → SpI G 11 h0 h u j → (∀ h' : Pic, SpI G 11 h0 h' (u + 1) 0 → V l R args M g 5 Q cells slots h' 60 [(0, .ref (gA g 4)), (1, .ref (gA g 11)), (2, .int (nI r)), (3, .int (nI u))] []) → V l R args M g 5 Q cells slots h 23 [(0, .ref (gA g 4)), (1, .ref (gA g 11)), (2, .int (nI r)), (3, .int (nI u)), (4, .int (nI j))] [] := by
  intro n
  induction n with
  | zero => intro j h b1 b2; omega
  | succ n ih =>
    intro j h b1 b2 I k
    have hn := hG.2.1
    have z12 := jt_le hG hu
    have hM := I.1.repM hn (by decide) hM0
    refine V_iload C d_M_spread_23 rfl ?_
    refine V_aload_n C d_M_spread_25 rfl ?_
    refine V_iload_n C d_M_spread_26 rfl ?_
    refine V_callV C "GameGraphModel" (As := [.int (nI u)]) (st := [.int (nI j)]) (c_M_joint E G hG h hM u hu) wc_M_joint (fun _ _ => codeIs) wz_M wl_M_58 wi_M_joint ws_M_joint ⟨by decide, by decide⟩ rfl recvM hRf hRc (Nat.le_of_ble_eq_true rfl) d_M_spread_27 (fun r h1 hp => ?_) (fun X h1 hp => hp.elim)
    obtain ⟨rfl, rfl⟩ := hp
    refine V_icmp_ge C 60 d_M_spread_30 (by decide) (fun c1 => ?_) (fun c1 => ?_)
    · have e := le_ge (by omega) (by omega) c1
      refine V_lv [(0, .ref (gA g 4)), (1, .ref (gA g 11)), (2, .int (nI r)), (3, .int (nI u))] rfl ?_
      exact k h1 (I.exit hu (Or.inl e))
    · have hl := nle_lt (by omega) (by omega) c1
      refine V_aload_n C d_M_spread_33 rfl ?_
      refine V_iload_n C d_M_spread_34 rfl ?_
      refine V_zald C 11 60 u (by decide) rfl rfl (by omega) (by decide) d_M_spread_35 ?_
      refine V_if_eq C 60 d_M_spread_36 (by decide) (fun c2 => ?_) (fun c2 => ?_)
      · refine V_lv [(0, .ref (gA g 4)), (1, .ref (gA g 11)), (2, .int (nI r)), (3, .int (nI u))] rfl ?_
        exact k h1 (I.exit hu (Or.inr (fun q => absurd (q.symm.trans c2) (by decide))))
      · have hin : In 11 h1 u := (I.2.1 u (by omega)).resolve_left c2
        have htn := (edge_of hu hl).lt hG
        refine V_aload_n C d_M_spread_39 rfl ?_
        refine V_aload_n C d_M_spread_40 rfl ?_
        refine V_getM C 6 (by decide) wf_M_30 rfl rfl d_M_spread_41 ?_
        refine V_bipush (v := 12) C d_M_spread_44 (by decide) ?_
        refine V_iload_n C d_M_spread_46 rfl ?_
        refine V_imul C d_M_spread_47 ?_
        refine V_iload C d_M_spread_48 rfl ?_
        refine V_iadd C d_M_spread_50 ?_
        refine V_topi (nI (12 * u + j)) (ix_12) ?_
        refine V_iald C 10 720 (12 * u + j) (by decide) rfl rfl (by omega) (by decide) d_M_spread_51 ?_
        refine V_topi (nI (Gx G u j)) ((hM.2 u hu).2.2.2 j hl) ?_
        refine V_iconst (v := 1) C d_M_spread_52 (by decide) ?_
        refine V_zast C 11 60 (Gx G u j) (by decide) (fun _ => rfl) rfl (by omega) (by decide) (Or.inr rfl) d_M_spread_53 (fun h2 eh2 => ?_)
        refine V_iinc C [(0, .ref (gA g 4)), (1, .ref (gA g 11)), (2, .int (nI r)), (3, .int (nI u)), (4, .int (nI (j + 1)))] d_M_spread_54 rfl (nI_1 _) (by decide) rfl rfl ?_
        refine V_goto C 23 d_M_spread_57 (by decide) ?_
        exact ih (j + 1) h2 (by omega) (by omega) (I.step hu hin hl eh2) k
set_option maxHeartbeats 4000000 in
theorem lp_spB11 {l : Launch} {R : Room} {args : Array Value} {M : MT} {g : Gh} {Q : State → Prop} {cells slots : Nat} (C : Cx args M g "GameGraphModel" b_M_spread 5) {G : Gr} (E : gOk g ∧ l.stackTraces = false) (hG : Good G) {h0 : Pic} (hM0 : RepM G h0) {r : Nat} (hRf : 2 ≤ R.frames ∧ 8 + (2 + 11) + 40 ≤ R.locals) (hRc : cells ≤ R.cells ∧ slots ≤ R.slots) :
    ∀ (n j : Nat) (h : Pic), j ≤ Gn G → Gn G + 1 ≤ j + n → SpI G 11 h0 h j 0 → (∀ h' : Pic, SpI G 11 h0 h' (Gn G) 0 → V l R args M g 5 Q cells slots h' 66 [(0, .ref (gA g 4)), (1, .ref (gA g 11)), (2, .int (nI r))] []) → V l R args M g 5 Q cells slots h 12 [(0, .ref (gA g 4)), (1, .ref (gA g 11)), (2, .int (nI r)), (3, .int (nI j))] [] := by
  intro n
  induction n with
  | zero => intro j h b1 b2; omega
  | succ n ih =>
    intro j h b1 b2 I k
    have hn := hG.2.1
    have hM := I.1.repM hn (by decide) hM0
    refine V_iload_n C d_M_spread_12 rfl ?_
    refine V_aload_n C d_M_spread_13 rfl ?_
    refine V_getM C 0 (by decide) wf_M_7 rfl rfl d_M_spread_14 ?_
    refine V_topi (nI (Gn G)) (hM.1) ?_
    refine V_icmp_ge C 66 d_M_spread_17 (by decide) (fun c1 => ?_) (fun c1 => ?_)
    · have e := le_ge (by omega) (by omega) c1
      have e : j = Gn G := by omega
      refine V_lv [(0, .ref (gA g 4)), (1, .ref (gA g 11)), (2, .int (nI r))] rfl ?_
      exact k h (e ▸ I)
    · have hl := nle_lt (by omega) (by omega) c1
      refine V_iconst (v := 0) C d_M_spread_20 (by decide) ?_
      refine V_istore C [(0, .ref (gA g 4)), (1, .ref (gA g 11)), (2, .int (nI r)), (3, .int (nI j)), (4, .int 0)] d_M_spread_21 (by decide) rfl rfl ?_
      refine V_lv [(0, .ref (gA g 4)), (1, .ref (gA g 11)), (2, .int (nI r)), (3, .int (nI j)), (4, .int (nI 0))] rfl ?_
      refine lp_spA11 C E hG hM0 (r := r) hl hRf hRc (jt G j + 1) 0 h (by omega) (by omega) I (fun h1 I1 => ?_)
      refine V_iinc C [(0, .ref (gA g 4)), (1, .ref (gA g 11)), (2, .int (nI r)), (3, .int (nI (j + 1)))] d_M_spread_60 rfl (nI_1 _) (by decide) rfl rfl ?_
      refine V_goto C 12 d_M_spread_63 (by decide) ?_
      exact ih (j + 1) h1 (by omega) (by omega) I1 k
set_option maxHeartbeats 4000000 in
theorem lp_spC11 {l : Launch} {R : Room} {args : Array Value} {M : MT} {g : Gh} {Q : State → Prop} {cells slots : Nat} (C : Cx args M g "GameGraphModel" b_M_spread 5) {G : Gr} (E : gOk g ∧ l.stackTraces = false) (hG : Good G) {h0 : Pic} (hM0 : RepM G h0) (hRf : 2 ≤ R.frames ∧ 8 + (2 + 11) + 40 ≤ R.locals) (hRc : cells ≤ R.cells ∧ slots ≤ R.slots) :
    ∀ (n j : Nat) (h : Pic), j ≤ Gn G → Gn G + 1 ≤ j + n → SpR G 11 h0 h j → (∀ h' : Pic, SpR G 11 h0 h' (Gn G) → V l R args M g 5 Q cells slots h' 72 [] []) → V l R args M g 5 Q cells slots h 2 [(0, .ref (gA g 4)), (1, .ref (gA g 11)), (2, .int (nI j))] [] := by
  intro n
  induction n with
  | zero => intro j h b1 b2; omega
  | succ n ih =>
    intro j h b1 b2 I k
    have hn := hG.2.1
    have hM := I.1.repM hn (by decide) hM0
    refine V_iload_n C d_M_spread_2 rfl ?_
    refine V_aload_n C d_M_spread_3 rfl ?_
    refine V_getM C 0 (by decide) wf_M_7 rfl rfl d_M_spread_4 ?_
    refine V_topi (nI (Gn G)) (hM.1) ?_
    refine V_icmp_ge C 72 d_M_spread_7 (by decide) (fun c1 => ?_) (fun c1 => ?_)
    · have e := le_ge (by omega) (by omega) c1
      have e : j = Gn G := by omega
      refine V_lv [] rfl ?_
      exact k h (e ▸ I)
    · have hl := nle_lt (by omega) (by omega) c1
      refine V_iconst (v := 0) C d_M_spread_10 (by decide) ?_
      refine V_istore_n C [(0, .ref (gA g 4)), (1, .ref (gA g 11)), (2, .int (nI j)), (3, .int 0)] d_M_spread_11 (by decide) rfl rfl ?_
      refine V_lv [(0, .ref (gA g 4)), (1, .ref (gA g 11)), (2, .int (nI j)), (3, .int (nI 0))] rfl ?_
      refine lp_spB11 C E hG hM (r := j) hRf hRc (Gn G + 1) 0 h (by omega) (by omega) (SpI.ini I.2.1) (fun h1 I1 => ?_)
      refine V_iinc C [(0, .ref (gA g 4)), (1, .ref (gA g 11)), (2, .int (nI (j + 1)))] d_M_spread_66 rfl (nI_1 _) (by decide) rfl rfl ?_
      refine V_goto C 2 d_M_spread_69 (by decide) ?_
      exact ih (j + 1) h1 (by omega) (by omega) (I.step hG I1) k
set_option maxHeartbeats 4000000 in
theorem c_M_spread11 {l : Launch} {g : Gh} (E : gOk g ∧ l.stackTraces = false) (G : Gr) (hG : Good G) (h : Pic) (hM : RepM G h) (hb : B01 11 h) : Ct l g y_M_spread k_M_spread (RM 2 0 0) [.ref (gA g 4), .ref (gA g 11)] h (fun r h' => r = none ∧ FrT 11 h h' ∧ B01 11 h' ∧ ∀ v, v < Gn G → (In 11 h' v ↔ ∃ w, w < Gn G ∧ In 11 h w ∧ Reach G w v)) (fun _ _ => False) := by
  refine Ct_of E.1 E.2 (by decide) (Nat.le_of_ble_eq_true rfl) (fun M C hr hx => ?_)
  have C : Cx _ M g "GameGraphModel" b_M_spread 5 := C
  refine V_lv [(0, .ref (gA g 4)), (1, .ref (gA g 11))] rfl ?_
  refine V_iconst (v := 0) C d_M_spread_0 (by decide) ?_
  refine V_istore_n C [(0, .ref (gA g 4)), (1, .ref (gA g 11)), (2, .int 0)] d_M_spread_1 (by decide) rfl rfl ?_
  refine V_lv [(0, .ref (gA g 4)), (1, .ref (gA g 11)), (2, .int (nI 0))] rfl ?_
  refine lp_spC11 C E hG hM ⟨by decide, by decide⟩ ⟨by decide, by decide⟩ (Gn G + 1) 0 h (by omega) (by omega) (SpR.ini hb) (fun h1 I1 => ?_)
  exact V_vret C hr d_M_spread_72 ⟨rfl, I1.1, I1.2.1, I1.fin hG⟩
set_option maxHeartbeats 4000000 in
theorem lp_spA12 {l : Launch} {R : Room} {args : Array Value} {M : MT} {g : Gh} {Q : State → Prop} {cells slots : Nat} (C : Cx args M g "GameGraphModel" b_M_spread 5) {G : Gr} (E : gOk g ∧ l.stackTraces = false) (hG : Good G) {h0 : Pic} (hM0 : RepM G h0) {r u : Nat} (hu : u < Gn G) (hRf : 2 ≤ R.frames ∧ 8 + (2 + 11) + 40 ≤ R.locals) (hRc : cells ≤ R.cells ∧ slots ≤ R.slots) :
    ∀ (n j : Nat) (h : Pic), j ≤ jt G u → jt G u + 1 ≤ j + n → SpI G 12 h0 h u j → (∀ h' : Pic, SpI G 12 h0 h' (u + 1) 0 → V l R args M g 5 Q cells slots h' 60 [(0, .ref (gA g 4)), (1, .ref (gA g 12)), (2, .int (nI r)), (3, .int (nI u))] []) → V l R args M g 5 Q cells slots h 23 [(0, .ref (gA g 4)), (1, .ref (gA g 12)), (2, .int (nI r)), (3, .int (nI u)), (4, .int (nI j))] [] := by
  intro n
  induction n with
  | zero => intro j h b1 b2; omega
  | succ n ih =>
    intro j h b1 b2 I k
    have hn := hG.2.1
    have z12 := jt_le hG hu
    have hM := I.1.repM hn (by decide) hM0
    refine V_iload C d_M_spread_23 rfl ?_
    refine V_aload_n C d_M_spread_25 rfl ?_
    refine V_iload_n C d_M_spread_26 rfl ?_
    refine V_callV C "GameGraphModel" (As := [.int (nI u)]) (st := [.int (nI j)]) (c_M_joint E G hG h hM u hu) wc_M_joint (fun _ _ => codeIs) wz_M wl_M_58 wi_M_joint ws_M_joint ⟨by decide, by decide⟩ rfl recvM hRf hRc (Nat.le_of_ble_eq_true rfl) d_M_spread_27 (fun r h1 hp => ?_) (fun X h1 hp => hp.elim)
    obtain ⟨rfl, rfl⟩ := hp
    refine V_icmp_ge C 60 d_M_spread_30 (by decide) (fun c1 => ?_) (fun c1 => ?_)
    · have e := le_ge (by omega) (by omega) c1
      refine V_lv [(0, .ref (gA g 4)), (1, .ref (gA g 12)), (2, .int (nI r)), (3, .int (nI u))] rfl ?_
      exact k h1 (I.exit hu (Or.inl e))
    · have hl := nle_lt (by omega) (by omega) c1
      refine V_aload_n C d_M_spread_33 rfl ?_
      refine V_iload_n C d_M_spread_34 rfl ?_
      refine V_zald C 12 60 u (by decide) rfl rfl (by omega) (by decide) d_M_spread_35 ?_
      refine V_if_eq C 60 d_M_spread_36 (by decide) (fun c2 => ?_) (fun c2 => ?_)
      · refine V_lv [(0, .ref (gA g 4)), (1, .ref (gA g 12)), (2, .int (nI r)), (3, .int (nI u))] rfl ?_
        exact k h1 (I.exit hu (Or.inr (fun q => absurd (q.symm.trans c2) (by decide))))
      · have hin : In 12 h1 u := (I.2.1 u (by omega)).resolve_left c2
        have htn := (edge_of hu hl).lt hG
        refine V_aload_n C d_M_spread_39 rfl ?_
        refine V_aload_n C d_M_spread_40 rfl ?_
        refine V_getM C 6 (by decide) wf_M_30 rfl rfl d_M_spread_41 ?_
        refine V_bipush (v := 12) C d_M_spread_44 (by decide) ?_
        refine V_iload_n C d_M_spread_46 rfl ?_
        refine V_imul C d_M_spread_47 ?_
        refine V_iload C d_M_spread_48 rfl ?_
        refine V_iadd C d_M_spread_50 ?_
        refine V_topi (nI (12 * u + j)) (ix_12) ?_
        refine V_iald C 10 720 (12 * u + j) (by decide) rfl rfl (by omega) (by decide) d_M_spread_51 ?_
        refine V_topi (nI (Gx G u j)) ((hM.2 u hu).2.2.2 j hl) ?_
        refine V_iconst (v := 1) C d_M_spread_52 (by decide) ?_
        refine V_zast C 12 60 (Gx G u j) (by decide) (fun _ => rfl) rfl (by omega) (by decide) (Or.inr rfl) d_M_spread_53 (fun h2 eh2 => ?_)
        refine V_iinc C [(0, .ref (gA g 4)), (1, .ref (gA g 12)), (2, .int (nI r)), (3, .int (nI u)), (4, .int (nI (j + 1)))] d_M_spread_54 rfl (nI_1 _) (by decide) rfl rfl ?_
        refine V_goto C 23 d_M_spread_57 (by decide) ?_
        exact ih (j + 1) h2 (by omega) (by omega) (I.step hu hin hl eh2) k
set_option maxHeartbeats 4000000 in
theorem lp_spB12 {l : Launch} {R : Room} {args : Array Value} {M : MT} {g : Gh} {Q : State → Prop} {cells slots : Nat} (C : Cx args M g "GameGraphModel" b_M_spread 5) {G : Gr} (E : gOk g ∧ l.stackTraces = false) (hG : Good G) {h0 : Pic} (hM0 : RepM G h0) {r : Nat} (hRf : 2 ≤ R.frames ∧ 8 + (2 + 11) + 40 ≤ R.locals) (hRc : cells ≤ R.cells ∧ slots ≤ R.slots) :
    ∀ (n j : Nat) (h : Pic), j ≤ Gn G → Gn G + 1 ≤ j + n → SpI G 12 h0 h j 0 → (∀ h' : Pic, SpI G 12 h0 h' (Gn G) 0 → V l R args M g 5 Q cells slots h' 66 [(0, .ref (gA g 4)), (1, .ref (gA g 12)), (2, .int (nI r))] []) → V l R args M g 5 Q cells slots h 12 [(0, .ref (gA g 4)), (1, .ref (gA g 12)), (2, .int (nI r)), (3, .int (nI j))] [] := by
  intro n
  induction n with
  | zero => intro j h b1 b2; omega
  | succ n ih =>
    intro j h b1 b2 I k
    have hn := hG.2.1
    have hM := I.1.repM hn (by decide) hM0
    refine V_iload_n C d_M_spread_12 rfl ?_
    refine V_aload_n C d_M_spread_13 rfl ?_
    refine V_getM C 0 (by decide) wf_M_7 rfl rfl d_M_spread_14 ?_
    refine V_topi (nI (Gn G)) (hM.1) ?_
    refine V_icmp_ge C 66 d_M_spread_17 (by decide) (fun c1 => ?_) (fun c1 => ?_)
    · have e := le_ge (by omega) (by omega) c1
      have e : j = Gn G := by omega
      refine V_lv [(0, .ref (gA g 4)), (1, .ref (gA g 12)), (2, .int (nI r))] rfl ?_
      exact k h (e ▸ I)
    · have hl := nle_lt (by omega) (by omega) c1
      refine V_iconst (v := 0) C d_M_spread_20 (by decide) ?_
      refine V_istore C [(0, .ref (gA g 4)), (1, .ref (gA g 12)), (2, .int (nI r)), (3, .int (nI j)), (4, .int 0)] d_M_spread_21 (by decide) rfl rfl ?_
      refine V_lv [(0, .ref (gA g 4)), (1, .ref (gA g 12)), (2, .int (nI r)), (3, .int (nI j)), (4, .int (nI 0))] rfl ?_
      refine lp_spA12 C E hG hM0 (r := r) hl hRf hRc (jt G j + 1) 0 h (by omega) (by omega) I (fun h1 I1 => ?_)
      refine V_iinc C [(0, .ref (gA g 4)), (1, .ref (gA g 12)), (2, .int (nI r)), (3, .int (nI (j + 1)))] d_M_spread_60 rfl (nI_1 _) (by decide) rfl rfl ?_
      refine V_goto C 12 d_M_spread_63 (by decide) ?_
      exact ih (j + 1) h1 (by omega) (by omega) I1 k
set_option maxHeartbeats 4000000 in
theorem lp_spC12 {l : Launch} {R : Room} {args : Array Value} {M : MT} {g : Gh} {Q : State → Prop} {cells slots : Nat} (C : Cx args M g "GameGraphModel" b_M_spread 5) {G : Gr} (E : gOk g ∧ l.stackTraces = false) (hG : Good G) {h0 : Pic} (hM0 : RepM G h0) (hRf : 2 ≤ R.frames ∧ 8 + (2 + 11) + 40 ≤ R.locals) (hRc : cells ≤ R.cells ∧ slots ≤ R.slots) :
    ∀ (n j : Nat) (h : Pic), j ≤ Gn G → Gn G + 1 ≤ j + n → SpR G 12 h0 h j → (∀ h' : Pic, SpR G 12 h0 h' (Gn G) → V l R args M g 5 Q cells slots h' 72 [] []) → V l R args M g 5 Q cells slots h 2 [(0, .ref (gA g 4)), (1, .ref (gA g 12)), (2, .int (nI j))] [] := by
  intro n
  induction n with
  | zero => intro j h b1 b2; omega
  | succ n ih =>
    intro j h b1 b2 I k
    have hn := hG.2.1
    have hM := I.1.repM hn (by decide) hM0
    refine V_iload_n C d_M_spread_2 rfl ?_
    refine V_aload_n C d_M_spread_3 rfl ?_
    refine V_getM C 0 (by decide) wf_M_7 rfl rfl d_M_spread_4 ?_
    refine V_topi (nI (Gn G)) (hM.1) ?_
    refine V_icmp_ge C 72 d_M_spread_7 (by decide) (fun c1 => ?_) (fun c1 => ?_)
    · have e := le_ge (by omega) (by omega) c1
      have e : j = Gn G := by omega
      refine V_lv [] rfl ?_
      exact k h (e ▸ I)
    · have hl := nle_lt (by omega) (by omega) c1
      refine V_iconst (v := 0) C d_M_spread_10 (by decide) ?_
      refine V_istore_n C [(0, .ref (gA g 4)), (1, .ref (gA g 12)), (2, .int (nI j)), (3, .int 0)] d_M_spread_11 (by decide) rfl rfl ?_
      refine V_lv [(0, .ref (gA g 4)), (1, .ref (gA g 12)), (2, .int (nI j)), (3, .int (nI 0))] rfl ?_
      refine lp_spB12 C E hG hM (r := j) hRf hRc (Gn G + 1) 0 h (by omega) (by omega) (SpI.ini I.2.1) (fun h1 I1 => ?_)
      refine V_iinc C [(0, .ref (gA g 4)), (1, .ref (gA g 12)), (2, .int (nI (j + 1)))] d_M_spread_66 rfl (nI_1 _) (by decide) rfl rfl ?_
      refine V_goto C 2 d_M_spread_69 (by decide) ?_
      exact ih (j + 1) h1 (by omega) (by omega) (I.step hG I1) k
set_option maxHeartbeats 4000000 in
theorem c_M_spread12 {l : Launch} {g : Gh} (E : gOk g ∧ l.stackTraces = false) (G : Gr) (hG : Good G) (h : Pic) (hM : RepM G h) (hb : B01 12 h) : Ct l g y_M_spread k_M_spread (RM 2 0 0) [.ref (gA g 4), .ref (gA g 12)] h (fun r h' => r = none ∧ FrT 12 h h' ∧ B01 12 h' ∧ ∀ v, v < Gn G → (In 12 h' v ↔ ∃ w, w < Gn G ∧ In 12 h w ∧ Reach G w v)) (fun _ _ => False) := by
  refine Ct_of E.1 E.2 (by decide) (Nat.le_of_ble_eq_true rfl) (fun M C hr hx => ?_)
  have C : Cx _ M g "GameGraphModel" b_M_spread 5 := C
  refine V_lv [(0, .ref (gA g 4)), (1, .ref (gA g 12))] rfl ?_
  refine V_iconst (v := 0) C d_M_spread_0 (by decide) ?_
  refine V_istore_n C [(0, .ref (gA g 4)), (1, .ref (gA g 12)), (2, .int 0)] d_M_spread_1 (by decide) rfl rfl ?_
  refine V_lv [(0, .ref (gA g 4)), (1, .ref (gA g 12)), (2, .int (nI 0))] rfl ?_
  refine lp_spC12 C E hG hM ⟨by decide, by decide⟩ ⟨by decide, by decide⟩ (Gn G + 1) 0 h (by omega) (by omega) (SpR.ini hb) (fun h1 I1 => ?_)
  exact V_vret C hr d_M_spread_72 ⟨rfl, I1.1, I1.2.1, I1.fin hG⟩
set_option maxHeartbeats 4000000 in
theorem lp_M_reach {l : Launch} {R : Room} {args : Array Value} {M : MT} {g : Gh} {Q : State → Prop} {cells slots : Nat} (C : Cx args M g "GameGraphModel" b_M_reach 2) {h0 : Pic} :
    ∀ (n j : Nat) (h : Pic), j ≤ 60 → 61 ≤ j + n → FrT 11 h0 h → (∀ i, i < j → h 11 i = if i = 0 then 1 else 0) → (∀ h' : Pic, FrT 11 h0 h' → (∀ i, i < 60 → h' 11 i = if i = 0 then 1 else 0) → V l R args M g 2 Q cells slots h' 29 [(0, .ref (gA g 4))] []) → V l R args M g 2 Q cells slots h 2 [(0, .ref (gA g 4)), (1, .int (nI j))] [] := by
  intro n
  induction n with
  | zero => intro j h b1 b2; omega
  | succ n ih =>
    intro j h b1 b2 hF hI k
    refine V_iload_n C d_M_reach_2 rfl ?_
    refine V_bipush (v := 60) C d_M_reach_3 (by decide) ?_
    refine V_topi (nI 60) (rfl) ?_
    refine V_icmp_ge C 29 d_M_reach_5 (by decide) (fun c1 => ?_) (fun c1 => ?_)
    · have e := le_ge (by omega) (by omega) c1
      refine V_lv [(0, .ref (gA g 4))] rfl ?_
      exact k h hF (fun i hi => hI i (by omega))
    · have hl := nle_lt (by omega) (by omega) c1
      refine V_aload_n C d_M_reach_8 rfl ?_
      refine V_getM C 7 (by decide) wf_M_33 rfl rfl d_M_reach_9 ?_
      refine V_iload_n C d_M_reach_12 rfl ?_
      refine V_iload_n C d_M_reach_13 rfl ?_
      refine V_if_ne C 21 d_M_reach_14 (by decide) (fun c2 => ?_) (fun c2 => ?_)
      · have ej : ¬ j = 0 := by
          have e0 : (0 : Int32) = nI 0 := nI_0.symm
          rw [e0, nI_eq (by omega) (by omega)] at c2
          exact c2
        refine V_iconst (v := 0) C d_M_reach_21 (by decide) ?_
        refine V_zast C 11 60 j (by decide) (fun _ => rfl) rfl hl (by decide) (Or.inl rfl) d_M_reach_22 (fun h1 eh1 => ?_)
        refine V_iinc C [(0, .ref (gA g 4)), (1, .int (nI (j + 1)))] d_M_reach_23 rfl (nI_1 _) (by decide) rfl rfl ?_
        refine V_goto C 2 d_M_reach_26 (by decide) ?_
        refine ih (j + 1) h1 (by omega) (by omega) (hF.tr (eh1 ▸ FrT.put)) (fun i hi => ?_) k
        rw [eh1]
        unfold pu
        by_cases q : i = j
        · rw [if_pos ⟨rfl, q⟩, q]; rw [if_neg ej]
        · rw [if_neg (fun z => q z.2)]; exact hI i (by omega)
      · have ej : j = 0 := by
          have e0 : (0 : Int32) = nI 0 := nI_0.symm
          rw [e0, nI_eq (by omega) (by omega)] at c2
          exact c2
        refine V_iconst (v := 1) C d_M_reach_17 (by decide) ?_
        refine V_goto C 22 d_M_reach_18 (by decide) ?_
        refine V_zast C 11 60 j (by decide) (fun _ => rfl) rfl hl (by decide) (Or.inr rfl) d_M_reach_22 (fun h1 eh1 => ?_)
        refine V_iinc C [(0, .ref (gA g 4)), (1, .int (nI (j + 1)))] d_M_reach_23 rfl (nI_1 _) (by decide) rfl rfl ?_
        refine V_goto C 2 d_M_reach_26 (by decide) ?_
        refine ih (j + 1) h1 (by omega) (by omega) (hF.tr (eh1 ▸ FrT.put)) (fun i hi => ?_) k
        rw [eh1]
        unfold pu
        by_cases q : i = j
        · rw [if_pos ⟨rfl, q⟩, q]; rw [if_pos ej]
        · rw [if_neg (fun z => q z.2)]; exact hI i (by omega)
set_option maxHeartbeats 4000000 in
theorem c_M_reach {l : Launch} {g : Gh} (E : gOk g ∧ l.stackTraces = false) (G : Gr) (hG : Good G) (h : Pic) (hM : RepM G h) : Ct l g y_M_reach k_M_reach (RM 3 0 0) [.ref (gA g 4)] h (fun r h' => r = none ∧ FrT 11 h h' ∧ B01 11 h' ∧ ∀ v, v < Gn G → (In 11 h' v ↔ Reach G 0 v)) (fun _ _ => False) := by
  refine Ct_of E.1 E.2 (by decide) (Nat.le_of_ble_eq_true rfl) (fun M C hr hx => ?_)
  have C : Cx _ M g "GameGraphModel" b_M_reach 2 := C
  refine V_lv [(0, .ref (gA g 4))] rfl ?_
  have hn := hG.2.1
  refine V_iconst (v := 0) C d_M_reach_0 (by decide) ?_
  refine V_istore_n C [(0, .ref (gA g 4)), (1, .int 0)] d_M_reach_1 (by decide) rfl rfl ?_
  refine V_lv [(0, .ref (gA g 4)), (1, .int (nI 0))] rfl ?_
  refine lp_M_reach C 61 0 h (by omega) (by omega) FrT.rf (fun i hi => by omega) (fun h1 f1 hI => ?_)
  have hM1 := f1.repM hn (by decide) hM
  have hb : B01 11 h1 := fun v hv => by
    rw [hI v hv]
    split
    · exact Or.inr rfl
    · exact Or.inl rfl
  refine V_aload_n C d_M_reach_29 rfl ?_
  refine V_aload_n C d_M_reach_30 rfl ?_
  refine V_getM C 7 (by decide) wf_M_33 rfl rfl d_M_reach_31 ?_
  refine V_callV C "GameGraphModel" (As := [.ref (gA g 11)]) (st := []) (c_M_spread11 E G hG h1 hM1 hb) wc_M_spread (fun _ _ => codeIs) wz_M wl_M_66 wi_M_spread ws_M_spread ⟨by decide, by decide⟩ rfl recvM ⟨by decide, by decide⟩ ⟨by decide, by decide⟩ (Nat.le_of_ble_eq_true rfl) d_M_reach_34 (fun r h2 hp => ?_) (fun X h1 hp => hp.elim)
  obtain ⟨rfl, f2, hb2, hi2⟩ := hp
  refine V_vret C hr d_M_reach_37 ⟨rfl, f1.tr f2, hb2, fun v hv => (hi2 v hv).trans ⟨fun ⟨w, w1, w2, w3⟩ => ?_, fun q => ⟨0, hG.1, ?_, q⟩⟩⟩
  · unfold In at w2
    rw [hI w (by omega)] at w2
    by_cases q : w = 0
    · subst q; exact w3
    · rw [if_neg q] at w2; exact absurd w2 (by decide)
  · unfold In
    rw [hI 0 (by omega)]; rfl
set_option maxHeartbeats 4000000 in
theorem lp_M_reached {l : Launch} {R : Room} {args : Array Value} {M : MT} {g : Gh} {Q : State → Prop} {cells slots : Nat} (C : Cx args M g "GameGraphModel" b_M_reached 3) {G : Gr} (hG : Good G) {h : Pic} (hc : h 4 0 = nI (Gn G)) (hb : B01 11 h) (hi : ∀ v, v < Gn G → (In 11 h v ↔ Reach G 0 v)) :
    ∀ (n j : Nat) (hh : Pic), j ≤ Gn G → Gn G + 1 ≤ j + n → hh = h → (V l R args M g 3 Q cells slots h 39 [(1, .int (nI (cnt (Reach G 0) (Gn G))))] []) → V l R args M g 3 Q cells slots hh 13 [(0, .ref (gA g 4)), (1, .int (nI (cnt (Reach G 0) j))), (2, .int (nI j))] [] := by
  intro n
  induction n with
  | zero => intro j hh b1 b2; omega
  | succ n ih =>
    intro j hh b1 b2 e k
    subst e
    have hn := hG.2.1
    refine V_iload_n C d_M_reached_13 rfl ?_
    refine V_aload_n C d_M_reached_14 rfl ?_
    refine V_getM C 0 (by decide) wf_M_7 rfl rfl d_M_reached_15 ?_
    refine V_topi (nI (Gn G)) (hc) ?_
    refine V_icmp_ge C 39 d_M_reached_18 (by decide) (fun c1 => ?_) (fun c1 => ?_)
    · have e := le_ge (by omega) (by omega) c1
      have e : j = Gn G := by omega
      subst e
      refine V_lv [(1, .int (nI (cnt (Reach G 0) (Gn G))))] rfl ?_
      exact k
    · have hl := nle_lt (by omega) (by omega) c1
      refine V_aload_n C d_M_reached_21 rfl ?_
      refine V_getM C 7 (by decide) wf_M_33 rfl rfl d_M_reached_22 ?_
      refine V_iload_n C d_M_reached_25 rfl ?_
      refine V_zald C 11 60 j (by decide) rfl rfl (by omega) (by decide) d_M_reached_26 ?_
      refine V_if_eq C 33 d_M_reached_27 (by decide) (fun c2 => ?_) (fun c2 => ?_)
      · refine V_iinc C [(0, .ref (gA g 4)), (1, .int (nI (cnt (Reach G 0) j))), (2, .int (nI (j + 1)))] d_M_reached_33 rfl (nI_1 _) (by decide) rfl rfl ?_
        refine V_goto C 13 d_M_reached_36 (by decide) ?_
        have hno : ¬ Reach G 0 j := fun q => absurd (((hi j hl).mpr q).symm.trans c2) (by decide)
        refine V_lv [(0, .ref (gA g 4)), (1, .int (nI (cnt (Reach G 0) (j + 1)))), (2, .int (nI (j + 1)))] (by rw [cnt_n hno]; rfl) ?_
        exact ih (j + 1) hh (by omega) (by omega) rfl k
      · have hy : Reach G 0 j := (hi j hl).mp ((hb j (by omega)).resolve_left c2)
        refine V_iinc C [(0, .ref (gA g 4)), (1, .int (nI (cnt (Reach G 0) j + 1))), (2, .int (nI j))] d_M_reached_30 rfl (nI_1 _) (by decide) rfl rfl ?_
        refine V_iinc C [(0, .ref (gA g 4)), (1, .int (nI (cnt (Reach G 0) j + 1))), (2, .int (nI (j + 1)))] d_M_reached_33 rfl (nI_1 _) (by decide) rfl rfl ?_
        refine V_goto C 13 d_M_reached_36 (by decide) ?_
        refine V_lv [(0, .ref (gA g 4)), (1, .int (nI (cnt (Reach G 0) (j + 1)))), (2, .int (nI (j + 1)))] (by rw [cnt_s hy]; rfl) ?_
        exact ih (j + 1) hh (by omega) (by omega) rfl k
set_option maxHeartbeats 4000000 in
theorem c_M_reached {l : Launch} {g : Gh} (E : gOk g ∧ l.stackTraces = false) (G : Gr) (hG : Good G) (h : Pic) (hM : RepM G h) : Ct l g y_M_reached k_M_reached (RM 4 0 0) [.ref (gA g 4)] h (fun r h' => r = some (.int (nI (cnt (Reach G 0) (Gn G)))) ∧ SameX h h' ∧ RepM G h') (fun _ _ => False) := by
  refine Ct_of E.1 E.2 (by decide) (Nat.le_of_ble_eq_true rfl) (fun M C hr hx => ?_)
  have C : Cx _ M g "GameGraphModel" b_M_reached 3 := C
  refine V_lv [(0, .ref (gA g 4))] rfl ?_
  have hn := hG.2.1
  refine V_aload_n C d_M_reached_0 rfl ?_
  refine V_iconst (v := 0) C d_M_reached_1 (by decide) ?_
  refine V_putM C 12 (by decide) wf_M_48 rfl rfl rfl rfl d_M_reached_2 (fun h1 eh1 => ?_)
  refine V_aload_n C d_M_reached_5 rfl ?_
  have hM1 : RepM G h1 := eh1 ▸ hM.th hn
  refine V_callV C "GameGraphModel" (As := []) (st := []) (c_M_reach E G hG h1 hM1) wc_M_reach (fun _ _ => codeIs) wz_M wl_M_70 wi_M_reach ws_M_reach ⟨by decide, by decide⟩ rfl recvM ⟨by decide, by decide⟩ ⟨by decide, by decide⟩ (Nat.le_of_ble_eq_true rfl) d_M_reached_6 (fun r h2 hp => ?_) (fun X h1 hp => hp.elim)
  obtain ⟨rfl, f2, hb2, hi2⟩ := hp
  have hM2 := f2.repM hn (by decide) hM1
  refine V_iconst (v := 0) C d_M_reached_9 (by decide) ?_
  refine V_istore_n C [(0, .ref (gA g 4)), (1, .int 0)] d_M_reached_10 (by decide) rfl rfl ?_
  refine V_iconst (v := 0) C d_M_reached_11 (by decide) ?_
  refine V_istore_n C [(0, .ref (gA g 4)), (1, .int 0), (2, .int 0)] d_M_reached_12 (by decide) rfl rfl ?_
  refine V_lv [(0, .ref (gA g 4)), (1, .int (nI (cnt (Reach G 0) 0))), (2, .int (nI 0))] rfl ?_
  refine lp_M_reached C hG hM2.1 hb2 hi2 (Gn G + 1) 0 h2 (by omega) (by omega) rfl ?_
  refine V_iload_n C d_M_reached_39 rfl ?_
  refine V_iret C hr rfl d_M_reached_40 ⟨rfl, fun k hk => funext fun i => ?_, hM2⟩
  rw [f2 k i (by omega), eh1, pu_k (by omega)]
set_option maxHeartbeats 4000000 in
theorem c_M_own {l : Launch} {g : Gh} (E : gOk g ∧ l.stackTraces = false) (G : Gr) (hG : Good G) (h : Pic) (hM : RepM G h) (u : Nat) (hu : u < Gn G) : Ct l g y_M_own k_M_own (RM 1 0 0) [.ref (gA g 4), .int (nI u)] h (fun r h' => h' = h ∧ r = some (.int (own G u))) (fun _ _ => False) := by
  refine Ct_of E.1 E.2 (by decide) (Nat.le_of_ble_eq_true rfl) (fun M C hr hx => ?_)
  have C : Cx _ M g "GameGraphModel" b_M_own 2 := C
  refine V_lv [(0, .ref (gA g 4)), (1, .int (nI u))] rfl ?_
  have hn := hG.2.1
  obtain ⟨d1, d2, d3, d4⟩ := hM.2 u hu
  refine V_aload_n C d_M_own_0 rfl ?_
  refine V_getM C 1 (by decide) wf_M_13 rfl rfl d_M_own_1 ?_
  refine V_iload_n C d_M_own_4 rfl ?_
  refine V_zald C 5 60 u (by decide) rfl rfl (by omega) (by decide) d_M_own_5 ?_
  refine V_if_eq C 57 d_M_own_6 (by decide) (fun c1 => ?_) (fun c1 => ?_)
  · have ho : ¬ Gop G u = true := fun q => by rw [d1, if_pos q] at c1; exact absurd c1 (by decide)
    have hf : Gop G u = false := by simpa using ho
    obtain ⟨da, db⟩ := d3 hf
    refine V_aload_n C d_M_own_57 rfl ?_
    refine V_getM C 2 (by decide) wf_M_17 rfl rfl d_M_own_58 ?_
    refine V_iload_n C d_M_own_61 rfl ?_
    refine V_iald C 6 60 u (by decide) rfl rfl (by omega) (by decide) d_M_own_62 ?_
    refine V_topi (Ga G u) (da) ?_
    refine V_if_lt C 75 d_M_own_63 (by decide) (fun c2 => ?_) (fun c2 => ?_)
    · refine V_iconst (v := 4) C d_M_own_75 (by decide) ?_
      refine V_goto C 102 d_M_own_76 (by decide) ?_
      exact V_iret C hr rfl d_M_own_102 ⟨rfl, by unfold own; rw [if_neg ho, if_pos (Or.inl c2)]⟩
    · refine V_aload_n C d_M_own_66 rfl ?_
      refine V_getM C 3 (by decide) wf_M_21 rfl rfl d_M_own_67 ?_
      refine V_iload_n C d_M_own_70 rfl ?_
      refine V_iald C 7 60 u (by decide) rfl rfl (by omega) (by decide) d_M_own_71 ?_
      refine V_topi (Gb G u) (db) ?_
      refine V_if_ge C 79 d_M_own_72 (by decide) (fun c3 => ?_) (fun c3 => ?_)
      · have hnn : ¬ (Ga G u < 0 ∨ Gb G u < 0) := fun z => z.elim c2 (fun z => Int32.not_le.mpr z c3)
        refine V_aload_n C d_M_own_79 rfl ?_
        refine V_getM C 2 (by decide) wf_M_17 rfl rfl d_M_own_80 ?_
        refine V_iload_n C d_M_own_83 rfl ?_
        refine V_iald C 6 60 u (by decide) rfl rfl (by omega) (by decide) d_M_own_84 ?_
        refine V_aload_n C d_M_own_85 rfl ?_
        refine V_getM C 3 (by decide) wf_M_21 rfl rfl d_M_own_86 ?_
        refine V_iload_n C d_M_own_89 rfl ?_
        refine V_iald C 7 60 u (by decide) rfl rfl (by omega) (by decide) d_M_own_90 ?_
        refine V_iadd C d_M_own_91 ?_
        refine V_topi (Ga G u + Gb G u) (by rw [da, db]) ?_
        refine V_bipush (v := 100) C d_M_own_92 (by decide) ?_
        refine V_icmp_eq C 101 d_M_own_94 (by decide) (fun c4 => ?_) (fun c4 => ?_)
        · refine V_iconst (v := 0) C d_M_own_101 (by decide) ?_
          exact V_iret C hr rfl d_M_own_102 ⟨rfl, by unfold own; rw [if_neg ho, if_neg hnn, if_neg (fun z => z c4)]⟩
        · refine V_iconst (v := 5) C d_M_own_97 (by decide) ?_
          refine V_goto C 102 d_M_own_98 (by decide) ?_
          exact V_iret C hr rfl d_M_own_102 ⟨rfl, by unfold own; rw [if_neg ho, if_neg hnn, if_pos c4]⟩
      · refine V_iconst (v := 4) C d_M_own_75 (by decide) ?_
        refine V_goto C 102 d_M_own_76 (by decide) ?_
        exact V_iret C hr rfl d_M_own_102 ⟨rfl, by unfold own; rw [if_neg ho, if_pos (Or.inr (Int32.not_le.mp c3))]⟩
  · have ho : Gop G u = true := by
      by_cases q : Gop G u = true
      · exact q
      · rw [d1, if_neg q] at c1; exact absurd rfl c1
    obtain ⟨da, db⟩ := d2 ho
    have hz : jt G u = 0 ↔ Ga G u = 0 ∨ Gb G u = 0 := by unfold jt; rw [if_pos ho]; exact jt_zero (hG.2.2.1 u hu ho)
    refine V_aload_n C d_M_own_9 rfl ?_
    refine V_getM C 4 (by decide) wf_M_24 rfl rfl d_M_own_10 ?_
    refine V_iload_n C d_M_own_13 rfl ?_
    refine V_iald C 8 60 u (by decide) rfl rfl (by omega) (by decide) d_M_own_14 ?_
    refine V_topi (Ga G u) (da) ?_
    refine V_if_eq C 27 d_M_own_15 (by decide) (fun c2 => ?_) (fun c2 => ?_)
    · refine V_iconst (v := 2) C d_M_own_27 (by decide) ?_
      refine V_goto C 56 d_M_own_28 (by decide) ?_
      exact V_iret C hr rfl d_M_own_56 ⟨rfl, by unfold own; rw [if_pos ho, if_pos (hz.mpr (Or.inl c2))]⟩
    · refine V_aload_n C d_M_own_18 rfl ?_
      refine V_getM C 5 (by decide) wf_M_27 rfl rfl d_M_own_19 ?_
      refine V_iload_n C d_M_own_22 rfl ?_
      refine V_iald C 9 60 u (by decide) rfl rfl (by omega) (by decide) d_M_own_23 ?_
      refine V_topi (Gb G u) (db) ?_
      refine V_if_ne C 31 d_M_own_24 (by decide) (fun c3 => ?_) (fun c3 => ?_)
      · have hnz : ¬ jt G u = 0 := fun z => (hz.mp z).elim c2 c3
        refine V_aload_n C d_M_own_31 rfl ?_
        refine V_getM C 4 (by decide) wf_M_24 rfl rfl d_M_own_32 ?_
        refine V_iload_n C d_M_own_35 rfl ?_
        refine V_iald C 8 60 u (by decide) rfl rfl (by omega) (by decide) d_M_own_36 ?_
        refine V_topi (Ga G u) (da) ?_
        refine V_iconst (v := 1) C d_M_own_37 (by decide) ?_
        refine V_icmp_le C 55 d_M_own_38 (by decide) (fun c4 => ?_) (fun c4 => ?_)
        · refine V_iconst (v := 0) C d_M_own_55 (by decide) ?_
          exact V_iret C hr rfl d_M_own_56 ⟨rfl, by unfold own; rw [if_pos ho, if_neg hnz, if_neg (fun z => Int32.not_le.mpr z.1 c4)]⟩
        · refine V_aload_n C d_M_own_41 rfl ?_
          refine V_getM C 5 (by decide) wf_M_27 rfl rfl d_M_own_42 ?_
          refine V_iload_n C d_M_own_45 rfl ?_
          refine V_iald C 9 60 u (by decide) rfl rfl (by omega) (by decide) d_M_own_46 ?_
          refine V_topi (Gb G u) (db) ?_
          refine V_iconst (v := 1) C d_M_own_47 (by decide) ?_
          refine V_icmp_le C 55 d_M_own_48 (by decide) (fun c5 => ?_) (fun c5 => ?_)
          · refine V_iconst (v := 0) C d_M_own_55 (by decide) ?_
            exact V_iret C hr rfl d_M_own_56 ⟨rfl, by unfold own; rw [if_pos ho, if_neg hnz, if_neg (fun z => Int32.not_le.mpr z.2 c5)]⟩
          · refine V_iconst (v := 3) C d_M_own_51 (by decide) ?_
            refine V_goto C 56 d_M_own_52 (by decide) ?_
            exact V_iret C hr rfl d_M_own_56 ⟨rfl, by unfold own; rw [if_pos ho, if_neg hnz, if_pos ⟨Int32.not_le.mp c4, Int32.not_le.mp c5⟩]⟩
      · refine V_iconst (v := 2) C d_M_own_27 (by decide) ?_
        refine V_goto C 56 d_M_own_28 (by decide) ?_
        exact V_iret C hr rfl d_M_own_56 ⟨rfl, by unfold own; rw [if_pos ho, if_pos (hz.mpr (Or.inr c3))]⟩
set_option maxHeartbeats 4000000 in
theorem lp_M_ca1 {l : Launch} {R : Room} {args : Array Value} {M : MT} {g : Gh} {Q : State → Prop} {cells slots : Nat} (C : Cx args M g "GameGraphModel" b_M_comesAgain 3) {h0 : Pic} {x : Int32} :
    ∀ (n j : Nat) (h : Pic), j ≤ 60 → 61 ≤ j + n → FrT 12 h0 h → (∀ i, i < j → h 12 i = 0) → (∀ h' : Pic, FrT 12 h0 h' → (∀ i, i < 60 → h' 12 i = 0) → V l R args M g 3 Q cells slots h' 21 [(0, .ref (gA g 4)), (1, .int x)] []) → V l R args M g 3 Q cells slots h 2 [(0, .ref (gA g 4)), (1, .int x), (2, .int (nI j))] [] := by
  intro n
  induction n with
  | zero => intro j h b1 b2; omega
  | succ n ih =>
    intro j h b1 b2 hF hI k
    refine V_iload_n C d_M_comesAgain_2 rfl ?_
    refine V_bipush (v := 60) C d_M_comesAgain_3 (by decide) ?_
    refine V_topi (nI 60) (rfl) ?_
    refine V_icmp_ge C 21 d_M_comesAgain_5 (by decide) (fun c1 => ?_) (fun c1 => ?_)
    · have e := le_ge (by omega) (by omega) c1
      refine V_lv [(0, .ref (gA g 4)), (1, .int x)] rfl ?_
      exact k h hF (fun i hi => hI i (by omega))
    · have hl := nle_lt (by omega) (by omega) c1
      refine V_aload_n C d_M_comesAgain_8 rfl ?_
      refine V_getM C 8 (by decide) wf_M_36 rfl rfl d_M_comesAgain_9 ?_
      refine V_iload_n C d_M_comesAgain_12 rfl ?_
      refine V_iconst (v := 0) C d_M_comesAgain_13 (by decide) ?_
      refine V_zast C 12 60 j (by decide) (fun _ => rfl) rfl hl (by decide) (Or.inl rfl) d_M_comesAgain_14 (fun h1 eh1 => ?_)
      refine V_iinc C [(0, .ref (gA g 4)), (1, .int x), (2, .int (nI (j + 1)))] d_M_comesAgain_15 rfl (nI_1 _) (by decide) rfl rfl ?_
      refine V_goto C 2 d_M_comesAgain_18 (by decide) ?_
      refine ih (j + 1) h1 (by omega) (by omega) (hF.tr (eh1 ▸ FrT.put)) (fun i hi => ?_) k
      rw [eh1]
      unfold pu
      by_cases q : i = j
      · rw [if_pos ⟨rfl, q⟩]
      · rw [if_neg (fun z => q z.2)]; exact hI i (by omega)
set_option maxHeartbeats 4000000 in
theorem lp_M_ca2 {l : Launch} {R : Room} {args : Array Value} {M : MT} {g : Gh} {Q : State → Prop} {cells slots : Nat} (C : Cx args M g "GameGraphModel" b_M_comesAgain 3) {G : Gr} (E : gOk g ∧ l.stackTraces = false) (hG : Good G) {h0 : Pic} (hM0 : RepM G h0) {u : Nat} (hu : u < Gn G) (hRf : 2 ≤ R.frames ∧ 8 + (2 + 11) + 40 ≤ R.locals) (hRc : cells ≤ R.cells ∧ slots ≤ R.slots) :
    ∀ (n j : Nat) (h : Pic), j ≤ jt G u → jt G u + 1 ≤ j + n → FrT 12 h0 h → B01 12 h → (∀ v, v < Gn G → (In 12 h v ↔ ∃ i, i < j ∧ Gx G u i = v)) → (∀ h' : Pic, FrT 12 h0 h' → B01 12 h' → (∀ v, v < Gn G → (In 12 h' v ↔ Edge G u v)) → V l R args M g 3 Q cells slots h' 55 [(0, .ref (gA g 4)), (1, .int (nI u))] []) → V l R args M g 3 Q cells slots h 23 [(0, .ref (gA g 4)), (1, .int (nI u)), (2, .int (nI j))] [] := by
  intro n
  induction n with
  | zero => intro j h b1 b2; omega
  | succ n ih =>
    intro j h b1 b2 hF hB hI k
    have hn := hG.2.1
    have z12 := jt_le hG hu
    have hM := hF.repM hn (by decide) hM0
    refine V_iload_n C d_M_comesAgain_23 rfl ?_
    refine V_aload_n C d_M_comesAgain_24 rfl ?_
    refine V_iload_n C d_M_comesAgain_25 rfl ?_
    refine V_callV C "GameGraphModel" (As := [.int (nI u)]) (st := [.int (nI j)]) (c_M_joint E G hG h hM u hu) wc_M_joint (fun _ _ => codeIs) wz_M wl_M_58 wi_M_joint ws_M_joint ⟨by decide, by decide⟩ rfl recvM hRf hRc (Nat.le_of_ble_eq_true rfl) d_M_comesAgain_26 (fun r h1 hp => ?_) (fun X h1 hp => hp.elim)
    obtain ⟨rfl, rfl⟩ := hp
    refine V_icmp_ge C 55 d_M_comesAgain_29 (by decide) (fun c1 => ?_) (fun c1 => ?_)
    · have e := le_ge (by omega) (by omega) c1
      have e : j = jt G u := by omega
      refine V_lv [(0, .ref (gA g 4)), (1, .int (nI u))] rfl ?_
      exact k h1 hF hB (fun v hv => (hI v hv).trans ⟨fun ⟨i, i1, i2⟩ => ⟨hu, i, by omega, i2⟩, fun ⟨_, i, i1, i2⟩ => ⟨i, by omega, i2⟩⟩)
    · have hl := nle_lt (by omega) (by omega) c1
      have htn := (edge_of hu hl).lt hG
      refine V_aload_n C d_M_comesAgain_32 rfl ?_
      refine V_getM C 8 (by decide) wf_M_36 rfl rfl d_M_comesAgain_33 ?_
      refine V_aload_n C d_M_comesAgain_36 rfl ?_
      refine V_getM C 6 (by decide) wf_M_30 rfl rfl d_M_comesAgain_37 ?_
      refine V_bipush (v := 12) C d_M_comesAgain_40 (by decide) ?_
      refine V_iload_n C d_M_comesAgain_42 rfl ?_
      refine V_imul C d_M_comesAgain_43 ?_
      refine V_iload_n C d_M_comesAgain_44 rfl ?_
      refine V_iadd C d_M_comesAgain_45 ?_
      refine V_topi (nI (12 * u + j)) (ix_12) ?_
      refine V_iald C 10 720 (12 * u + j) (by decide) rfl rfl (by omega) (by decide) d_M_comesAgain_46 ?_
      refine V_topi (nI (Gx G u j)) ((hM.2 u hu).2.2.2 j hl) ?_
      refine V_iconst (v := 1) C d_M_comesAgain_47 (by decide) ?_
      refine V_zast C 12 60 (Gx G u j) (by decide) (fun _ => rfl) rfl (by omega) (by decide) (Or.inr rfl) d_M_comesAgain_48 (fun h2 eh2 => ?_)
      refine V_iinc C [(0, .ref (gA g 4)), (1, .int (nI u)), (2, .int (nI (j + 1)))] d_M_comesAgain_49 rfl (nI_1 _) (by decide) rfl rfl ?_
      refine V_goto C 23 d_M_comesAgain_52 (by decide) ?_
      refine ih (j + 1) h2 (by omega) (by omega) (hF.tr (eh2 ▸ FrT.put)) (eh2 ▸ hB.put (Or.inr rfl)) (fun v hv => ?_) k
      rw [eh2, In.put, hI v hv]
      constructor
      · rintro (⟨i, i1, i2⟩ | q)
        · exact ⟨i, by omega, i2⟩
        · exact ⟨j, by omega, q.symm⟩
      · rintro ⟨i, i1, i2⟩
        by_cases q : i = j
        · subst q; exact Or.inr i2.symm
        · exact Or.inl ⟨i, by omega, i2⟩
set_option maxHeartbeats 4000000 in
theorem c_M_comesAgain {l : Launch} {g : Gh} (E : gOk g ∧ l.stackTraces = false) (G : Gr) (hG : Good G) (h : Pic) (hM : RepM G h) (u : Nat) (hu : u < Gn G) : Ct l g y_M_comesAgain k_M_comesAgain (RM 3 0 0) [.ref (gA g 4), .int (nI u)] h (fun r h' => FrT 12 h h' ∧ ((r = some (.int 1) ∧ Cyc G u) ∨ (r = some (.int 0) ∧ ¬ Cyc G u))) (fun _ _ => False) := by
  refine Ct_of E.1 E.2 (by decide) (Nat.le_of_ble_eq_true rfl) (fun M C hr hx => ?_)
  have C : Cx _ M g "GameGraphModel" b_M_comesAgain 3 := C
  refine V_lv [(0, .ref (gA g 4)), (1, .int (nI u))] rfl ?_
  have hn := hG.2.1
  refine V_iconst (v := 0) C d_M_comesAgain_0 (by decide) ?_
  refine V_istore_n C [(0, .ref (gA g 4)), (1, .int (nI u)), (2, .int 0)] d_M_comesAgain_1 (by decide) rfl rfl ?_
  refine V_lv [(0, .ref (gA g 4)), (1, .int (nI u)), (2, .int (nI 0))] rfl ?_
  refine lp_M_ca1 C 61 0 h (by omega) (by omega) FrT.rf (fun i hi => by omega) (fun h1 f1 hz => ?_)
  have hM1 := f1.repM hn (by decide) hM
  refine V_iconst (v := 0) C d_M_comesAgain_21 (by decide) ?_
  refine V_istore_n C [(0, .ref (gA g 4)), (1, .int (nI u)), (2, .int 0)] d_M_comesAgain_22 (by decide) rfl rfl ?_
  refine V_lv [(0, .ref (gA g 4)), (1, .int (nI u)), (2, .int (nI 0))] rfl ?_
  refine lp_M_ca2 C E hG hM1 hu ⟨by decide, by decide⟩ ⟨by decide, by decide⟩ (jt G u + 1) 0 h1 (by omega) (by omega) FrT.rf (fun v hv => Or.inl (hz v hv)) (fun v hv => ⟨fun q => absurd ((hz v (by omega)).symm.trans q) (by decide), fun ⟨i, i1, _⟩ => by omega⟩) (fun h2 f2 hb2 hi2 => ?_)
  have hM2 := f2.repM hn (by decide) hM1
  refine V_aload_n C d_M_comesAgain_55 rfl ?_
  refine V_aload_n C d_M_comesAgain_56 rfl ?_
  refine V_getM C 8 (by decide) wf_M_36 rfl rfl d_M_comesAgain_57 ?_
  refine V_callV C "GameGraphModel" (As := [.ref (gA g 12)]) (st := []) (c_M_spread12 E G hG h2 hM2 hb2) wc_M_spread (fun _ _ => codeIs) wz_M wl_M_66 wi_M_spread ws_M_spread ⟨by decide, by decide⟩ rfl recvM ⟨by decide, by decide⟩ ⟨by decide, by decide⟩ (Nat.le_of_ble_eq_true rfl) d_M_comesAgain_60 (fun r h3 hp => ?_) (fun X h1 hp => hp.elim)
  obtain ⟨rfl, f3, hb3, hi3⟩ := hp
  have hcy : In 12 h3 u ↔ Cyc G u := (hi3 u hu).trans ⟨fun ⟨w, w1, w2, w3⟩ => ⟨w, (hi2 w w1).mp w2, w3⟩, fun ⟨w, w1, w2⟩ => ⟨w, w1.lt hG, (hi2 w (w1.lt hG)).mpr w1, w2⟩⟩
  refine V_aload_n C d_M_comesAgain_63 rfl ?_
  refine V_getM C 8 (by decide) wf_M_36 rfl rfl d_M_comesAgain_64 ?_
  refine V_iload_n C d_M_comesAgain_67 rfl ?_
  refine V_zald C 12 60 u (by decide) rfl rfl (by omega) (by decide) d_M_comesAgain_68 ?_
  rcases hb3 u (by omega) with q | q
  · exact V_iret C hr (by rw [q]; rfl) d_M_comesAgain_69 ⟨(f1.tr f2).tr f3, Or.inr ⟨by rw [q], fun z => absurd ((hcy.mpr z).symm.trans q) (by decide)⟩⟩
  · exact V_iret C hr (by rw [q]; rfl) d_M_comesAgain_69 ⟨(f1.tr f2).tr f3, Or.inl ⟨by rw [q], hcy.mp q⟩⟩
end
section
-- ===== printed by gen/w11.py: the model: defective, defect =====
def FrD (h h' : Pic) : Prop := ∀ k i, k ≠ 11 → k ≠ 12 → h' k i = h k i
theorem Def.at {G : Gr} {d w : Int32} (h : Def G d w) : (w = -1 ∧ d = 0 ∧ Sane G) ∨ ∃ u, u < Gn G ∧ w = nI u ∧ ¬ Sane G ∧ ((own G u ≠ 0 ∧ d = own G u) ∨ (own G u = 0 ∧ d = 6)) := by
  have h0 := h
  rcases h with ⟨u, a1, a2, a3, a4, e1, e2⟩ | ⟨a0, u, a1, a2, a3, a4, e1, e2⟩ | ⟨a0, a1, e1, e2⟩
  · exact Or.inr ⟨u, a1, e2, fun hs => a3 (hs.1 u a1 a2), Or.inl ⟨a3, e1⟩⟩
  · exact Or.inr ⟨u, a1, e2, fun hs => hs.2 u a1 a2 a3, Or.inr ⟨a0 u a1 a2, e1⟩⟩
  · exact Or.inl ⟨e2, e1, a0, a1⟩
theorem nI_nm1 {u : Nat} (hu : u < 60) : ¬ nI u = -1 := by
  rw [i32_eq, nI_toInt (by omega), show (-1 : Int32).toInt = -1 from rfl]
  omega
set_option maxHeartbeats 4000000 in
theorem lp_M_df1 {l : Launch} {R : Room} {args : Array Value} {M : MT} {g : Gh} {Q : State → Prop} {cells slots : Nat} (C : Cx args M g "GameGraphModel" b_M_defective 2) {G : Gr} (E : gOk g ∧ l.stackTraces = false) (hG : Good G) {h : Pic} (hM : RepM G h) (hb : B01 11 h) (hi : ∀ v, v < Gn G → (In 11 h v ↔ Reach G 0 v)) (hRf : 2 ≤ R.frames ∧ 8 + (2 + 11) + 40 ≤ R.locals) (hRc : cells ≤ R.cells ∧ slots ≤ R.slots) :
    ∀ (n j : Nat) (hh : Pic), j ≤ Gn G → Gn G + 1 ≤ j + n → hh = h → (∀ v, v < j → Reach G 0 v → own G v = 0) → (∀ d w, Def G d w → V l R args M g 2 Q cells slots h 32 [] [.int w]) → ((∀ v, v < Gn G → Reach G 0 v → own G v = 0) → V l R args M g 2 Q cells slots h 39 [(0, .ref (gA g 4))] []) → V l R args M g 2 Q cells slots hh 6 [(0, .ref (gA g 4)), (1, .int (nI j))] [] := by
  intro n
  induction n with
  | zero => intro j hh b1 b2; omega
  | succ n ih =>
    intro j hh b1 b2 e hA k1 k2
    subst e
    have hn := hG.2.1
    refine V_iload_n C d_M_defective_6 rfl ?_
    refine V_aload_n C d_M_defective_7 rfl ?_
    refine V_getM C 0 (by decide) wf_M_7 rfl rfl d_M_defective_8 ?_
    refine V_topi (nI (Gn G)) (hM.1) ?_
    refine V_icmp_ge C 39 d_M_defective_11 (by decide) (fun c1 => ?_) (fun c1 => ?_)
    · have e := le_ge (by omega) (by omega) c1
      refine V_lv [(0, .ref (gA g 4))] rfl ?_
      exact k2 (fun v hv => hA v (by omega))
    · have hl := nle_lt (by omega) (by omega) c1
      refine V_aload_n C d_M_defective_14 rfl ?_
      refine V_getM C 7 (by decide) wf_M_33 rfl rfl d_M_defective_15 ?_
      refine V_iload_n C d_M_defective_18 rfl ?_
      refine V_zald C 11 60 j (by decide) rfl rfl (by omega) (by decide) d_M_defective_19 ?_
      refine V_if_eq C 33 d_M_defective_20 (by decide) (fun c2 => ?_) (fun c2 => ?_)
      · refine V_iinc C [(0, .ref (gA g 4)), (1, .int (nI (j + 1)))] d_M_defective_33 rfl (nI_1 _) (by decide) rfl rfl ?_
        refine V_goto C 6 d_M_defective_36 (by decide) ?_
        refine ih (j + 1) hh (by omega) (by omega) rfl (fun v hv hr => ?_) k1 k2
        by_cases q : v = j
        · subst q; exact absurd (((hi v hl).mpr hr).symm.trans c2) (by decide)
        · exact hA v (by omega) hr
      · have hy : Reach G 0 j := (hi j hl).mp ((hb j (by omega)).resolve_left c2)
        refine V_aload_n C d_M_defective_23 rfl ?_
        refine V_iload_n C d_M_defective_24 rfl ?_
        refine V_callV C "GameGraphModel" (As := [.int (nI j)]) (st := []) (c_M_own E G hG hh hM j hl) wc_M_own (fun _ _ => codeIs) wz_M wl_M_73 wi_M_own ws_M_own ⟨by decide, by decide⟩ rfl recvM hRf hRc (Nat.le_of_ble_eq_true rfl) d_M_defective_25 (fun r h1 hp => ?_) (fun X h1 hp => hp.elim)
        obtain ⟨rfl, rfl⟩ := hp
        refine V_if_eq C 33 d_M_defective_28 (by decide) (fun c3 => ?_) (fun c3 => ?_)
        · refine V_iinc C [(0, .ref (gA g 4)), (1, .int (nI (j + 1)))] d_M_defective_33 rfl (nI_1 _) (by decide) rfl rfl ?_
          refine V_goto C 6 d_M_defective_36 (by decide) ?_
          refine ih (j + 1) h1 (by omega) (by omega) rfl (fun v hv hr => ?_) k1 k2
          by_cases q : v = j
          · subst q; exact c3
          · exact hA v (by omega) hr
        · refine V_iload_n C d_M_defective_31 rfl ?_
          refine V_lv [] rfl ?_
          exact k1 _ _ (Or.inl ⟨j, hl, hy, c3, hA, rfl, rfl⟩)
set_option maxHeartbeats 4000000 in
theorem lp_M_df2 {l : Launch} {R : Room} {args : Array Value} {M : MT} {g : Gh} {Q : State → Prop} {cells slots : Nat} (C : Cx args M g "GameGraphModel" b_M_defective 2) {G : Gr} (E : gOk g ∧ l.stackTraces = false) (hG : Good G) {h0 : Pic} (hM0 : RepM G h0) (hb : B01 11 h0) (hi : ∀ v, v < Gn G → (In 11 h0 v ↔ Reach G 0 v)) (hown : ∀ v, v < Gn G → Reach G 0 v → own G v = 0) (hRf : 4 ≤ R.frames ∧ 8 + (3 + 11) + 120 ≤ R.locals) (hRc : cells ≤ R.cells ∧ slots ≤ R.slots) :
    ∀ (n j : Nat) (h : Pic), j ≤ Gn G → Gn G + 1 ≤ j + n → FrT 12 h0 h → (∀ v, v < j → Reach G 0 v → ¬ Cyc G v) → (∀ h' d w, FrT 12 h0 h' → Def G d w → V l R args M g 2 Q cells slots h' 67 [] [.int w]) → (∀ h' d w, FrT 12 h0 h' → Def G d w → V l R args M g 2 Q cells slots h' 75 [] [.int w]) → V l R args M g 2 Q cells slots h 41 [(0, .ref (gA g 4)), (1, .int (nI j))] [] := by
  intro n
  induction n with
  | zero => intro j h b1 b2; omega
  | succ n ih =>
    intro j h b1 b2 hF hA k1 k2
    have hn := hG.2.1
    have hM := hF.repM hn (by decide) hM0
    refine V_iload_n C d_M_defective_41 rfl ?_
    refine V_aload_n C d_M_defective_42 rfl ?_
    refine V_getM C 0 (by decide) wf_M_7 rfl rfl d_M_defective_43 ?_
    refine V_topi (nI (Gn G)) (hM.1) ?_
    refine V_icmp_ge C 74 d_M_defective_46 (by decide) (fun c1 => ?_) (fun c1 => ?_)
    · have e := le_ge (by omega) (by omega) c1
      refine V_iconst (v := (-1)) C d_M_defective_74 (by decide) ?_
      refine V_lv [] rfl ?_
      exact k2 h 0 (-1) hF (Or.inr (Or.inr ⟨hown, fun v hv => hA v (by omega), rfl, rfl⟩))
    · have hl := nle_lt (by omega) (by omega) c1
      refine V_aload_n C d_M_defective_49 rfl ?_
      refine V_getM C 7 (by decide) wf_M_33 rfl rfl d_M_defective_50 ?_
      refine V_iload_n C d_M_defective_53 rfl ?_
      refine V_zald C 11 60 j (by decide) rfl rfl (by omega) (by decide) d_M_defective_54 ?_
      refine V_topi (h0 11 j) (hF 11 j (by decide)) ?_
      refine V_if_eq C 68 d_M_defective_55 (by decide) (fun c2 => ?_) (fun c2 => ?_)
      · refine V_iinc C [(0, .ref (gA g 4)), (1, .int (nI (j + 1)))] d_M_defective_68 rfl (nI_1 _) (by decide) rfl rfl ?_
        refine V_goto C 41 d_M_defective_71 (by decide) ?_
        refine ih (j + 1) h (by omega) (by omega) (hF) (fun v hv hr => ?_) k1 k2
        by_cases q : v = j
        · subst q; exact absurd (((hi v hl).mpr hr).symm.trans c2) (by decide)
        · exact hA v (by omega) hr
      · have hy : Reach G 0 j := (hi j hl).mp ((hb j (by omega)).resolve_left c2)
        refine V_aload_n C d_M_defective_58 rfl ?_
        refine V_iload_n C d_M_defective_59 rfl ?_
        refine V_callV C "GameGraphModel" (As := [.int (nI j)]) (st := []) (c_M_comesAgain E G hG h hM j hl) wc_M_comesAgain (fun _ _ => codeIs) wz_M wl_M_76 wi_M_comesAgain ws_M_comesAgain ⟨by decide, by decide⟩ rfl recvM hRf hRc (Nat.le_of_ble_eq_true rfl) d_M_defective_60 (fun r h1 hp => ?_) (fun X h1 hp => hp.elim)
        obtain ⟨f1, hp⟩ := hp
        rcases hp with ⟨rfl, hcy⟩ | ⟨rfl, hcy⟩
        · refine V_if_eq C 68 d_M_defective_63 (by decide) (fun c3 => ?_) (fun c3 => ?_)
          · exact absurd c3 (by decide)
          · refine V_iload_n C d_M_defective_66 rfl ?_
            refine V_lv [] rfl ?_
            exact k1 h1 _ _ (hF.tr f1) (Or.inr (Or.inl ⟨hown, j, hl, hy, hcy, hA, rfl, rfl⟩))
        · refine V_if_eq C 68 d_M_defective_63 (by decide) (fun c3 => ?_) (fun c3 => ?_)
          · refine V_iinc C [(0, .ref (gA g 4)), (1, .int (nI (j + 1)))] d_M_defective_68 rfl (nI_1 _) (by decide) rfl rfl ?_
            refine V_goto C 41 d_M_defective_71 (by decide) ?_
            refine ih (j + 1) h1 (by omega) (by omega) (hF.tr f1) (fun v hv hr => ?_) k1 k2
            by_cases q : v = j
            · subst q; exact hcy
            · exact hA v (by omega) hr
          · exact absurd rfl c3
set_option maxHeartbeats 4000000 in
theorem c_M_defective {l : Launch} {g : Gh} (E : gOk g ∧ l.stackTraces = false) (G : Gr) (hG : Good G) (h : Pic) (hM : RepM G h) : Ct l g y_M_defective k_M_defective (RM 4 0 0) [.ref (gA g 4)] h (fun r h' => ∃ d w, Def G d w ∧ r = some (.int w) ∧ FrD h h' ∧ B01 11 h' ∧ ∀ v, v < Gn G → (In 11 h' v ↔ Reach G 0 v)) (fun _ _ => False) := by
  refine Ct_of E.1 E.2 (by decide) (Nat.le_of_ble_eq_true rfl) (fun M C hr hx => ?_)
  have C : Cx _ M g "GameGraphModel" b_M_defective 2 := C
  refine V_lv [(0, .ref (gA g 4))] rfl ?_
  have hn := hG.2.1
  refine V_aload_n C d_M_defective_0 rfl ?_
  refine V_callV C "GameGraphModel" (As := []) (st := []) (c_M_reach E G hG h hM) wc_M_reach (fun _ _ => codeIs) wz_M wl_M_70 wi_M_reach ws_M_reach ⟨by decide, by decide⟩ rfl recvM ⟨by decide, by decide⟩ ⟨by decide, by decide⟩ (Nat.le_of_ble_eq_true rfl) d_M_defective_1 (fun r h1 hp => ?_) (fun X h1 hp => hp.elim)
  obtain ⟨rfl, f1, hb1, hi1⟩ := hp
  have hM1 := f1.repM hn (by decide) hM
  refine V_iconst (v := 0) C d_M_defective_4 (by decide) ?_
  refine V_istore_n C [(0, .ref (gA g 4)), (1, .int 0)] d_M_defective_5 (by decide) rfl rfl ?_
  refine V_lv [(0, .ref (gA g 4)), (1, .int (nI 0))] rfl ?_
  have f1d : FrD h h1 := fun k i q _ => f1 k i q
  refine lp_M_df1 C E hG hM1 hb1 hi1 ⟨by decide, by decide⟩ ⟨by decide, by decide⟩ (Gn G + 1) 0 h1 (by omega) (by omega) rfl (fun v hv => by omega) (fun d w hd => ?_) (fun hown => ?_)
  · exact V_iret C hr rfl d_M_defective_32 ⟨d, w, hd, rfl, f1d, hb1, hi1⟩
  have fin : ∀ h2 : Pic, FrT 12 h1 h2 → FrD h h2 ∧ B01 11 h2 ∧ ∀ v, v < Gn G → (In 11 h2 v ↔ Reach G 0 v) := fun h2 f2 => ⟨fun k i q1 q2 => (f2 k i q2).trans (f1 k i q1), fun v hv => by rw [f2 11 v (by decide)]; exact hb1 v hv, fun v hv => by unfold In; rw [f2 11 v (by decide)]; exact hi1 v hv⟩
  refine V_iconst (v := 0) C d_M_defective_39 (by decide) ?_
  refine V_istore_n C [(0, .ref (gA g 4)), (1, .int 0)] d_M_defective_40 (by decide) rfl rfl ?_
  refine V_lv [(0, .ref (gA g 4)), (1, .int (nI 0))] rfl ?_
  refine lp_M_df2 C E hG hM1 hb1 hi1 hown ⟨by decide, by decide⟩ ⟨by decide, by decide⟩ (Gn G + 1) 0 h1 (by omega) (by omega) FrT.rf (fun v hv => by omega) (fun h2 d w f2 hd => ?_) (fun h2 d w f2 hd => ?_)
  · exact V_iret C hr rfl d_M_defective_67 ⟨d, w, hd, rfl, fin h2 f2⟩
  · exact V_iret C hr rfl d_M_defective_75 ⟨d, w, hd, rfl, fin h2 f2⟩
set_option maxHeartbeats 4000000 in
theorem c_M_defect {l : Launch} {g : Gh} (E : gOk g ∧ l.stackTraces = false) (G : Gr) (hG : Good G) (h : Pic) (hM : RepM G h) (x : Int32) : Ct l g y_M_defect k_M_defect (RM 5 0 0) [.ref (gA g 4), .int x] h (fun r h' => SameX h h' ∧ RepM G h' ∧ ∃ v, r = some (.int v) ∧ ((h' 4 12 = 0 ∧ (x = 0 ∨ x = 1) ∧ ∃ d w, Def G d w ∧ v = if x = 0 then d else w) ∨ (h' 4 12 = 1 ∧ ¬ (x = 0 ∨ x = 1)))) (fun _ _ => False) := by
  refine Ct_of E.1 E.2 (by decide) (Nat.le_of_ble_eq_true rfl) (fun M C hr hx => ?_)
  have C : Cx _ M g "GameGraphModel" b_M_defect 3 := C
  refine V_lv [(0, .ref (gA g 4)), (1, .int x)] rfl ?_
  have hn := hG.2.1
  refine V_aload_n C d_M_defect_0 rfl ?_
  refine V_iload_n C d_M_defect_1 rfl ?_
  refine V_if_eq C 10 d_M_defect_2 (by decide) (fun c1 => ?_) (fun c1 => ?_)
  · subst c1
    refine V_lv [(0, .ref (gA g 4)), (1, .int 0)] rfl ?_
    refine V_iconst (v := 0) C d_M_defect_10 (by decide) ?_
    refine V_goto C 15 d_M_defect_11 (by decide) ?_
    refine V_putM C 12 (by decide) wf_M_48 rfl rfl rfl rfl d_M_defect_15 (fun h1 eh1 => ?_)
    refine V_aload_n C d_M_defect_18 rfl ?_
    refine V_getM C 12 (by decide) wf_M_48 rfl rfl d_M_defect_19 ?_
    refine V_topi (0) (by rw [eh1, pu_self]) ?_
    refine V_if_eq C 27 d_M_defect_22 (by decide) (fun cz => ?_) (fun cz => ?_)
    · have hM1 : RepM G h1 := eh1 ▸ hM.th hn
      refine V_aload_n C d_M_defect_27 rfl ?_
      refine V_callV C "GameGraphModel" (As := []) (st := []) (c_M_defective E G hG h1 hM1) wc_M_defective (fun _ _ => codeIs) wz_M wl_M_79 wi_M_defective ws_M_defective ⟨by decide, by decide⟩ rfl recvM ⟨by decide, by decide⟩ ⟨by decide, by decide⟩ (Nat.le_of_ble_eq_true rfl) d_M_defect_28 (fun r h2 hp => ?_) (fun X h1 hp => hp.elim)
      obtain ⟨d, w, hd, rfl, f2, _, _⟩ := hp
      have hM2 : RepM G h2 := hM1.fr hn (f2 4 0 (by decide) (by decide)) (fun k i q1 q2 => f2 k i (by omega) (by omega))
      have hX : SameX h h2 := fun k hk => funext fun i => by rw [f2 k i (by omega) (by omega), eh1, pu_k (by omega)]
      have h12 : h2 4 12 = 0 := by rw [f2 4 12 (by decide) (by decide), eh1, pu_self]
      refine V_istore_n C [(0, .ref (gA g 4)), (1, .int 0), (2, .int w)] d_M_defect_31 (by decide) rfl rfl ?_
      refine V_iload_n C d_M_defect_32 rfl ?_
      refine V_iconst (v := 1) C d_M_defect_33 (by decide) ?_
      refine V_icmp_ne C 41 d_M_defect_34 (by decide) (fun c3 => ?_) (fun c3 => ?_)
      · refine V_iload_n C d_M_defect_41 rfl ?_
        refine V_iconst (v := (-1)) C d_M_defect_42 (by decide) ?_
        refine V_icmp_ne C 50 d_M_defect_43 (by decide) (fun c4 => ?_) (fun c4 => ?_)
        · rcases hd.at with ⟨e, _⟩ | ⟨u, hu, e, hns, hc⟩
          · exact absurd e c4
          · subst e
            refine V_lv [(0, .ref (gA g 4)), (1, .int 0), (2, .int (nI u))] rfl ?_
            refine V_aload_n C d_M_defect_50 rfl ?_
            refine V_iload_n C d_M_defect_51 rfl ?_
            refine V_callV C "GameGraphModel" (As := [.int (nI u)]) (st := []) (c_M_own E G hG h2 hM2 u hu) wc_M_own (fun _ _ => codeIs) wz_M wl_M_73 wi_M_own ws_M_own ⟨by decide, by decide⟩ rfl recvM ⟨by decide, by decide⟩ ⟨by decide, by decide⟩ (Nat.le_of_ble_eq_true rfl) d_M_defect_52 (fun r h3 hp => ?_) (fun X h1 hp => hp.elim)
            obtain ⟨rfl, rfl⟩ := hp
            refine V_if_eq C 66 d_M_defect_55 (by decide) (fun c5 => ?_) (fun c5 => ?_)
            · refine V_bipush (v := 6) C d_M_defect_66 (by decide) ?_
              have e6 : d = 6 := by
                rcases hc with ⟨q, _⟩ | ⟨_, q⟩
                · exact absurd c5 q
                · exact q
              exact V_iret C hr rfl d_M_defect_68 ⟨hX, hM2, _, rfl, Or.inl ⟨h12, Or.inl rfl, d, _, hd, by rw [if_pos rfl, e6]⟩⟩
            · refine V_aload_n C d_M_defect_58 rfl ?_
              refine V_iload_n C d_M_defect_59 rfl ?_
              refine V_callV C "GameGraphModel" (As := [.int (nI u)]) (st := []) (c_M_own E G hG h3 hM2 u hu) wc_M_own (fun _ _ => codeIs) wz_M wl_M_73 wi_M_own ws_M_own ⟨by decide, by decide⟩ rfl recvM ⟨by decide, by decide⟩ ⟨by decide, by decide⟩ (Nat.le_of_ble_eq_true rfl) d_M_defect_60 (fun r h4 hp => ?_) (fun X h1 hp => hp.elim)
              obtain ⟨rfl, rfl⟩ := hp
              refine V_goto C 68 d_M_defect_63 (by decide) ?_
              have e6 : d = own G u := by
                rcases hc with ⟨_, q⟩ | ⟨q, _⟩
                · exact q
                · exact absurd q c5
              exact V_iret C hr rfl d_M_defect_68 ⟨hX, hM2, _, rfl, Or.inl ⟨h12, Or.inl rfl, d, _, hd, by rw [if_pos rfl, e6]⟩⟩
        · have e0 : d = 0 := by
            rcases hd.at with ⟨_, e, _⟩ | ⟨u, hu, e, _⟩
            · exact e
            · exact absurd (e.symm.trans c4) (nI_nm1 (by omega))
          refine V_iconst (v := 0) C d_M_defect_46 (by decide) ?_
          refine V_goto C 68 d_M_defect_47 (by decide) ?_
          exact V_iret C hr rfl d_M_defect_68 ⟨hX, hM2, _, rfl, Or.inl ⟨h12, Or.inl rfl, d, w, hd, by rw [if_pos rfl, e0]⟩⟩
      · exact absurd c3 (by decide)
    · exact absurd rfl cz
  · refine V_iload_n C d_M_defect_5 rfl ?_
    refine V_iconst (v := 1) C d_M_defect_6 (by decide) ?_
    refine V_icmp_ne C 14 d_M_defect_7 (by decide) (fun c2 => ?_) (fun c2 => ?_)
    · refine V_iconst (v := 1) C d_M_defect_14 (by decide) ?_
      refine V_putM C 12 (by decide) wf_M_48 rfl rfl rfl rfl d_M_defect_15 (fun h1 eh1 => ?_)
      refine V_aload_n C d_M_defect_18 rfl ?_
      refine V_getM C 12 (by decide) wf_M_48 rfl rfl d_M_defect_19 ?_
      refine V_topi (1) (by rw [eh1, pu_self]) ?_
      refine V_if_eq C 27 d_M_defect_22 (by decide) (fun cz => ?_) (fun cz => ?_)
      · exact absurd cz (by decide)
      · refine V_iconst (v := 0) C d_M_defect_25 (by decide) ?_
        exact V_iret C hr rfl d_M_defect_26 ⟨eh1 ▸ SameX.pu (by decide) (by decide), eh1 ▸ hM.th hn, _, rfl, Or.inr ⟨by rw [eh1, pu_self], fun z => z.elim c1 c2⟩⟩
    · subst c2
      refine V_lv [(0, .ref (gA g 4)), (1, .int 1)] rfl ?_
      refine V_iconst (v := 0) C d_M_defect_10 (by decide) ?_
      refine V_goto C 15 d_M_defect_11 (by decide) ?_
      refine V_putM C 12 (by decide) wf_M_48 rfl rfl rfl rfl d_M_defect_15 (fun h1 eh1 => ?_)
      refine V_aload_n C d_M_defect_18 rfl ?_
      refine V_getM C 12 (by decide) wf_M_48 rfl rfl d_M_defect_19 ?_
      refine V_topi (0) (by rw [eh1, pu_self]) ?_
      refine V_if_eq C 27 d_M_defect_22 (by decide) (fun cz => ?_) (fun cz => ?_)
      · have hM1 : RepM G h1 := eh1 ▸ hM.th hn
        refine V_aload_n C d_M_defect_27 rfl ?_
        refine V_callV C "GameGraphModel" (As := []) (st := []) (c_M_defective E G hG h1 hM1) wc_M_defective (fun _ _ => codeIs) wz_M wl_M_79 wi_M_defective ws_M_defective ⟨by decide, by decide⟩ rfl recvM ⟨by decide, by decide⟩ ⟨by decide, by decide⟩ (Nat.le_of_ble_eq_true rfl) d_M_defect_28 (fun r h2 hp => ?_) (fun X h1 hp => hp.elim)
        obtain ⟨d, w, hd, rfl, f2, _, _⟩ := hp
        have hM2 : RepM G h2 := hM1.fr hn (f2 4 0 (by decide) (by decide)) (fun k i q1 q2 => f2 k i (by omega) (by omega))
        have hX : SameX h h2 := fun k hk => funext fun i => by rw [f2 k i (by omega) (by omega), eh1, pu_k (by omega)]
        have h12 : h2 4 12 = 0 := by rw [f2 4 12 (by decide) (by decide), eh1, pu_self]
        refine V_istore_n C [(0, .ref (gA g 4)), (1, .int 1), (2, .int w)] d_M_defect_31 (by decide) rfl rfl ?_
        refine V_iload_n C d_M_defect_32 rfl ?_
        refine V_iconst (v := 1) C d_M_defect_33 (by decide) ?_
        refine V_icmp_ne C 41 d_M_defect_34 (by decide) (fun c3 => ?_) (fun c3 => ?_)
        · exact absurd rfl c3
        · refine V_iload_n C d_M_defect_37 rfl ?_
          refine V_goto C 68 d_M_defect_38 (by decide) ?_
          exact V_iret C hr rfl d_M_defect_68 ⟨hX, hM2, _, rfl, Or.inl ⟨h12, Or.inr rfl, d, w, hd, by rw [if_neg (by decide)]⟩⟩
      · exact absurd rfl cz
end
section
-- ===== printed by gen/w12.py: the model: learn, asked, value, best, length =====
/-- known[] holds booleans -/
def BN (G : Gr) (h : Pic) : Prop := ∀ v, v < Gn G → h 13 v = 0 ∨ h 13 v = 1
/-- what is known is right -/
def KM (G : Gr) (h : Pic) : Prop := ∀ v, v < Gn G → In 13 h v → h 14 v = VAL G v ∧ h 15 v = nI (LEN G v)
def FrU (u : Nat) (h h' : Pic) : Prop := ∀ k i, ¬ ((13 ≤ k ∧ k ≤ 15) ∧ i = u) → h' k i = h k i
def FrA (h h' : Pic) : Prop := ∀ k i, ¬ (13 ≤ k ∧ k ≤ 15) → h' k i = h k i
theorem FrU.tr {u : Nat} {h h1 h2 : Pic} (a : FrU u h h1) (b : FrU u h1 h2) : FrU u h h2 := fun k i q => (b k i q).trans (a k i q)
theorem FrU.put {u k : Nat} {h : Pic} {v : Int32} (h1 : 13 ≤ k) (h2 : k ≤ 15) : FrU u h (pu h k u v) := fun K i q => by
  unfold pu
  rw [if_neg (by omega)]
theorem FrU.repM {G : Gr} {u : Nat} {h h' : Pic} (hn : Gn G ≤ 60) (f : FrU u h h') (hM : RepM G h) : RepM G h' := hM.fr hn (f 4 0 (by omega)) (fun k i h1 h2 => f k i (by omega))
theorem FrU.frA {u : Nat} {h h' : Pic} (f : FrU u h h') : FrA h h' := fun k i q => f k i (by omega)
theorem FrA.tr {h h1 h2 : Pic} (a : FrA h h1) (b : FrA h1 h2) : FrA h h2 := fun k i q => (b k i q).trans (a k i q)
theorem FrA.repM {G : Gr} {h h' : Pic} (hn : Gn G ≤ 60) (f : FrA h h') (hM : RepM G h) : RepM G h' := hM.fr hn (f 4 0 (by omega)) (fun k i h1 h2 => f k i (by omega))
theorem FrA.sameX {h h' : Pic} (f : FrA h h') : SameX h h' := fun k hk => funext fun i => f k i (by omega)
/-- learn's first loop: known[u] so far -/
def L1 (G : Gr) (h0 h : Pic) (u j : Nat) : Prop := (∀ k i, ¬ (k = 13 ∧ i = u) → h k i = h0 k i) ∧ ((h 13 u = 1 ∧ ∀ i, i < j → In 13 h0 (Gx G u i)) ∨ (h 13 u = 0 ∧ ∃ i, i < j ∧ i < jt G u ∧ ¬ In 13 h0 (Gx G u i)))
/-- learn's second loop: value[u], length[u] so far -/
def L2 (G : Gr) (h0 h : Pic) (u j : Nat) : Prop := (∀ k i, ¬ ((k = 14 ∨ k = 15) ∧ i = u) → h k i = h0 k i) ∧ h 14 u = (if j = 0 then h0 6 u else bst (decide (1 < Ga G u)) (fun i => VAL G (Gx G u i)) j) ∧ h 15 u = nI (lnf (fun i => LEN G (Gx G u i)) j)
theorem bst_s {m : Bool} {w : Nat → Int32} {k : Nat} (hk : k ≠ 0) : bst m w (k + 1) = if m = true then (if bst m w k < w k then w k else bst m w k) else (if w k < bst m w k then w k else bst m w k) := by
  cases k with
  | zero => exact absurd rfl hk
  | succ k => rfl
set_option maxHeartbeats 4000000 in
theorem ln_better {l : Launch} {R : Room} {args : Array Value} {M : MT} {g : Gh} {Q : State → Prop} {cells slots : Nat} (C : Cx args M g "GameGraphModel" b_M_learn 5) {h : Pic} {u j t : Nat} (hu : u < 60) (ht : t < 60) {a : Int32} (ha : h 8 u = a) (k : ∀ bt : Int32, (bt = 0 ∨ bt = 1) → (bt ≠ 0 ↔ if decide (1 < a) = true then h 14 u < h 14 t else h 14 t < h 14 u) → V l R args M g 5 Q cells slots h 154 [(0, .ref (gA g 4)), (1, .int (nI u)), (2, .int (nI j)), (3, .int (nI t))] [.int bt]) : V l R args M g 5 Q cells slots h 101 [(0, .ref (gA g 4)), (1, .int (nI u)), (2, .int (nI j)), (3, .int (nI t))] [] := by
  refine V_aload_n C d_M_learn_101 rfl ?_
  refine V_getM C 4 (by decide) wf_M_24 rfl rfl d_M_learn_102 ?_
  refine V_iload_n C d_M_learn_105 rfl ?_
  refine V_iald C 8 60 u (by decide) rfl rfl hu (by decide) d_M_learn_106 ?_
  refine V_topi (a) (ha) ?_
  refine V_iconst (v := 1) C d_M_learn_107 (by decide) ?_
  refine V_icmp_le C 134 d_M_learn_108 (by decide) (fun c1 => ?_) (fun c1 => ?_)
  · have hd : ¬ decide (1 < a) = true := fun q => Int32.not_lt.mpr c1 (of_decide_eq_true q)
    refine V_aload_n C d_M_learn_134 rfl ?_
    refine V_getM C 10 (by decide) wf_M_42 rfl rfl d_M_learn_135 ?_
    refine V_iload_n C d_M_learn_138 rfl ?_
    refine V_iald C 14 60 t (by decide) rfl rfl ht (by decide) d_M_learn_139 ?_
    refine V_aload_n C d_M_learn_140 rfl ?_
    refine V_getM C 10 (by decide) wf_M_42 rfl rfl d_M_learn_141 ?_
    refine V_iload_n C d_M_learn_144 rfl ?_
    refine V_iald C 14 60 u (by decide) rfl rfl hu (by decide) d_M_learn_145 ?_
    refine V_icmp_ge C 153 d_M_learn_146 (by decide) (fun c2 => ?_) (fun c2 => ?_)
    · refine V_iconst (v := 0) C d_M_learn_153 (by decide) ?_
      exact k 0 (Or.inl rfl) (by rw [if_neg hd]; exact ⟨fun q => absurd rfl q, fun q => absurd q (Int32.not_lt.mpr c2)⟩)
    · refine V_iconst (v := 1) C d_M_learn_149 (by decide) ?_
      refine V_goto C 154 d_M_learn_150 (by decide) ?_
      exact k 1 (Or.inr rfl) (by rw [if_neg hd]; exact ⟨fun _ => Int32.not_le.mp c2, fun _ => by decide⟩)
  · have hd : decide (1 < a) = true := decide_eq_true (Int32.not_le.mp c1)
    refine V_aload_n C d_M_learn_111 rfl ?_
    refine V_getM C 10 (by decide) wf_M_42 rfl rfl d_M_learn_112 ?_
    refine V_iload_n C d_M_learn_115 rfl ?_
    refine V_iald C 14 60 t (by decide) rfl rfl ht (by decide) d_M_learn_116 ?_
    refine V_aload_n C d_M_learn_117 rfl ?_
    refine V_getM C 10 (by decide) wf_M_42 rfl rfl d_M_learn_118 ?_
    refine V_iload_n C d_M_learn_121 rfl ?_
    refine V_iald C 14 60 u (by decide) rfl rfl hu (by decide) d_M_learn_122 ?_
    refine V_icmp_le C 130 d_M_learn_123 (by decide) (fun c2 => ?_) (fun c2 => ?_)
    · refine V_iconst (v := 0) C d_M_learn_130 (by decide) ?_
      refine V_goto C 154 d_M_learn_131 (by decide) ?_
      exact k 0 (Or.inl rfl) (by rw [if_pos hd]; exact ⟨fun q => absurd rfl q, fun q => absurd q (Int32.not_lt.mpr c2)⟩)
    · refine V_iconst (v := 1) C d_M_learn_126 (by decide) ?_
      refine V_goto C 154 d_M_learn_127 (by decide) ?_
      exact k 1 (Or.inr rfl) (by rw [if_pos hd]; exact ⟨fun _ => Int32.not_le.mp c2, fun _ => by decide⟩)
set_option maxHeartbeats 4000000 in
theorem ln_value {l : Launch} {R : Room} {args : Array Value} {M : MT} {g : Gh} {Q : State → Prop} {cells slots : Nat} (C : Cx args M g "GameGraphModel" b_M_learn 5) {h : Pic} {u j t : Nat} (hu : u < 60) (ht : t < 60) (hj : j < 60) {bt : Int32} (k : ∀ h' : Pic, (h' = if j = 0 ∨ bt ≠ 0 then pu h 14 u (h 14 t) else h) → V l R args M g 5 Q cells slots h' 177 [(0, .ref (gA g 4)), (1, .int (nI u)), (2, .int (nI j)), (3, .int (nI t))] []) : V l R args M g 5 Q cells slots h 156 [(0, .ref (gA g 4)), (1, .int (nI u)), (2, .int (nI j)), (3, .int (nI t)), (4, .int bt)] [] := by
  refine V_iload_n C d_M_learn_156 rfl ?_
  refine V_if_eq C 165 d_M_learn_157 (by decide) (fun c1 => ?_) (fun c1 => ?_)
  · have ej : j = 0 := (nI_eq (by omega) (by omega)).mp (c1.trans nI_0.symm)
    refine V_aload_n C d_M_learn_165 rfl ?_
    refine V_getM C 10 (by decide) wf_M_42 rfl rfl d_M_learn_166 ?_
    refine V_iload_n C d_M_learn_169 rfl ?_
    refine V_aload_n C d_M_learn_170 rfl ?_
    refine V_getM C 10 (by decide) wf_M_42 rfl rfl d_M_learn_171 ?_
    refine V_iload_n C d_M_learn_174 rfl ?_
    refine V_iald C 14 60 t (by decide) rfl rfl ht (by decide) d_M_learn_175 ?_
    refine V_iast C 14 60 u (by decide) (fun _ => rfl) rfl hu (by decide) d_M_learn_176 (fun h1 eh1 => ?_)
    refine V_lv [(0, .ref (gA g 4)), (1, .int (nI u)), (2, .int (nI j)), (3, .int (nI t))] rfl ?_
    exact k h1 (by rw [if_pos (Or.inl ej)]; exact eh1)
  · have ej : ¬ j = 0 := fun q => c1 (by rw [q]; rfl)
    refine V_iload C d_M_learn_160 rfl ?_
    refine V_if_eq C 177 d_M_learn_162 (by decide) (fun c2 => ?_) (fun c2 => ?_)
    · refine V_lv [(0, .ref (gA g 4)), (1, .int (nI u)), (2, .int (nI j)), (3, .int (nI t))] rfl ?_
      exact k h (by rw [if_neg (fun q => q.elim ej (fun z => z c2))])
    · refine V_aload_n C d_M_learn_165 rfl ?_
      refine V_getM C 10 (by decide) wf_M_42 rfl rfl d_M_learn_166 ?_
      refine V_iload_n C d_M_learn_169 rfl ?_
      refine V_aload_n C d_M_learn_170 rfl ?_
      refine V_getM C 10 (by decide) wf_M_42 rfl rfl d_M_learn_171 ?_
      refine V_iload_n C d_M_learn_174 rfl ?_
      refine V_iald C 14 60 t (by decide) rfl rfl ht (by decide) d_M_learn_175 ?_
      refine V_iast C 14 60 u (by decide) (fun _ => rfl) rfl hu (by decide) d_M_learn_176 (fun h1 eh1 => ?_)
      refine V_lv [(0, .ref (gA g 4)), (1, .int (nI u)), (2, .int (nI j)), (3, .int (nI t))] rfl ?_
      exact k h1 (by rw [if_pos (Or.inr c2)]; exact eh1)
set_option maxHeartbeats 4000000 in
theorem ln_length {l : Launch} {R : Room} {args : Array Value} {M : MT} {g : Gh} {Q : State → Prop} {cells slots : Nat} (C : Cx args M g "GameGraphModel" b_M_learn 5) {h : Pic} {u j t : Nat} (hu : u < 60) (ht : t < 60) {p q : Nat} (hp : p < 60) (hq : q ≤ 60) (e1 : h 15 t = nI p) (e2 : h 15 u = nI q) (k : ∀ h' : Pic, (h' = if q < p + 1 then pu h 15 u (nI (p + 1)) else h) → V l R args M g 5 Q cells slots h' 208 [(0, .ref (gA g 4)), (1, .int (nI u)), (2, .int (nI j))] []) : V l R args M g 5 Q cells slots h 177 [(0, .ref (gA g 4)), (1, .int (nI u)), (2, .int (nI j)), (3, .int (nI t))] [] := by
  refine V_aload_n C d_M_learn_177 rfl ?_
  refine V_getM C 11 (by decide) wf_M_45 rfl rfl d_M_learn_178 ?_
  refine V_iload_n C d_M_learn_181 rfl ?_
  refine V_iald C 15 60 t (by decide) rfl rfl ht (by decide) d_M_learn_182 ?_
  refine V_iconst (v := 1) C d_M_learn_183 (by decide) ?_
  refine V_iadd C d_M_learn_184 ?_
  refine V_topi (nI (p + 1)) (by rw [e1]; exact nI_1 p) ?_
  refine V_aload_n C d_M_learn_185 rfl ?_
  refine V_getM C 11 (by decide) wf_M_45 rfl rfl d_M_learn_186 ?_
  refine V_iload_n C d_M_learn_189 rfl ?_
  refine V_iald C 15 60 u (by decide) rfl rfl hu (by decide) d_M_learn_190 ?_
  refine V_topi (nI q) (e2) ?_
  refine V_icmp_le C 208 d_M_learn_191 (by decide) (fun c1 => ?_) (fun c1 => ?_)
  · have z := (nI_leI (by omega) (by omega)).mp c1
    refine V_lv [(0, .ref (gA g 4)), (1, .int (nI u)), (2, .int (nI j))] rfl ?_
    exact k h (by rw [if_neg (by omega)])
  · have z : q < p + 1 := nle_lt (by omega) (by omega) c1
    refine V_aload_n C d_M_learn_194 rfl ?_
    refine V_getM C 11 (by decide) wf_M_45 rfl rfl d_M_learn_195 ?_
    refine V_iload_n C d_M_learn_198 rfl ?_
    refine V_aload_n C d_M_learn_199 rfl ?_
    refine V_getM C 11 (by decide) wf_M_45 rfl rfl d_M_learn_200 ?_
    refine V_iload_n C d_M_learn_203 rfl ?_
    refine V_iald C 15 60 t (by decide) rfl rfl ht (by decide) d_M_learn_204 ?_
    refine V_iconst (v := 1) C d_M_learn_205 (by decide) ?_
    refine V_iadd C d_M_learn_206 ?_
    refine V_topi (nI (p + 1)) (by rw [e1]; exact nI_1 p) ?_
    refine V_iast C 15 60 u (by decide) (fun _ => rfl) rfl hu (by decide) d_M_learn_207 (fun h1 eh1 => ?_)
    refine V_lv [(0, .ref (gA g 4)), (1, .int (nI u)), (2, .int (nI j))] rfl ?_
    exact k h1 (by rw [if_pos z]; exact eh1)
set_option maxHeartbeats 4000000 in
theorem lp_ln1 {l : Launch} {R : Room} {args : Array Value} {M : MT} {g : Gh} {Q : State → Prop} {cells slots : Nat} (C : Cx args M g "GameGraphModel" b_M_learn 5) {G : Gr} (E : gOk g ∧ l.stackTraces = false) (hG : Good G) {h0 : Pic} (hM0 : RepM G h0) {u : Nat} (hu : u < Gn G) (hne : ∀ i, i < jt G u → Gx G u i ≠ u) (hRf : 2 ≤ R.frames ∧ 8 + (2 + 11) + 40 ≤ R.locals) (hRc : cells ≤ R.cells ∧ slots ≤ R.slots) (hb0 : BN G h0) :
    ∀ (n j : Nat) (h : Pic), j ≤ jt G u → jt G u + 1 ≤ j + n → L1 G h0 h u j → (∀ h' : Pic, L1 G h0 h' u (jt G u) → V l R args M g 5 Q cells slots h' 69 [(0, .ref (gA g 4)), (1, .int (nI u))] []) → V l R args M g 5 Q cells slots h 28 [(0, .ref (gA g 4)), (1, .int (nI u)), (2, .int (nI j))] [] := by
  intro n
  induction n with
  | zero => intro j h b1 b2; omega
  | succ n ih =>
    intro j h b1 b2 I k
    have hn := hG.2.1
    have z12 := jt_le hG hu
    have hM := hM0.fr hn (I.1 4 0 (by omega)) (fun k i h1 h2 => I.1 k i (by omega))
    refine V_iload_n C d_M_learn_28 rfl ?_
    refine V_aload_n C d_M_learn_29 rfl ?_
    refine V_iload_n C d_M_learn_30 rfl ?_
    refine V_callV C "GameGraphModel" (As := [.int (nI u)]) (st := [.int (nI j)]) (c_M_joint E G hG h hM u hu) wc_M_joint (fun _ _ => codeIs) wz_M wl_M_58 wi_M_joint ws_M_joint ⟨by decide, by decide⟩ rfl recvM hRf hRc (Nat.le_of_ble_eq_true rfl) d_M_learn_31 (fun r h1 hp => ?_) (fun X h1 hp => hp.elim)
    obtain ⟨rfl, rfl⟩ := hp
    refine V_icmp_ge C 69 d_M_learn_34 (by decide) (fun c1 => ?_) (fun c1 => ?_)
    · have e := le_ge (by omega) (by omega) c1
      have e : j = jt G u := by omega
      refine V_lv [(0, .ref (gA g 4)), (1, .int (nI u))] rfl ?_
      exact k h1 (e ▸ I)
    · have hl := nle_lt (by omega) (by omega) c1
      have htn := (edge_of hu hl).lt hG
      have htu := hne j hl
      have ek : h1 13 (Gx G u j) = h0 13 (Gx G u j) := I.1 13 _ (fun q => htu q.2)
      refine V_aload_n C d_M_learn_37 rfl ?_
      refine V_getM C 9 (by decide) wf_M_39 rfl rfl d_M_learn_38 ?_
      refine V_aload_n C d_M_learn_41 rfl ?_
      refine V_getM C 6 (by decide) wf_M_30 rfl rfl d_M_learn_42 ?_
      refine V_bipush (v := 12) C d_M_learn_45 (by decide) ?_
      refine V_iload_n C d_M_learn_47 rfl ?_
      refine V_imul C d_M_learn_48 ?_
      refine V_iload_n C d_M_learn_49 rfl ?_
      refine V_iadd C d_M_learn_50 ?_
      refine V_topi (nI (12 * u + j)) (ix_12) ?_
      refine V_iald C 10 720 (12 * u + j) (by decide) rfl rfl (by omega) (by decide) d_M_learn_51 ?_
      refine V_topi (nI (Gx G u j)) ((hM.2 u hu).2.2.2 j hl) ?_
      refine V_zald C 13 60 (Gx G u j) (by decide) rfl rfl (by omega) (by decide) d_M_learn_52 ?_
      refine V_topi (h0 13 (Gx G u j)) (ek) ?_
      refine V_if_ne C 63 d_M_learn_53 (by decide) (fun c2 => ?_) (fun c2 => ?_)
      · have hin : In 13 h0 (Gx G u j) := (hb0 _ (by omega)).resolve_left c2
        refine V_iinc C [(0, .ref (gA g 4)), (1, .int (nI u)), (2, .int (nI (j + 1)))] d_M_learn_63 rfl (nI_1 _) (by decide) rfl rfl ?_
        refine V_goto C 28 d_M_learn_66 (by decide) ?_
        refine ih (j + 1) h1 (by omega) (by omega) ⟨I.1, ?_⟩ k
        rcases I.2 with ⟨a1, a2⟩ | ⟨a1, i, i1, i2, i3⟩
        · refine Or.inl ⟨a1, fun i hi => ?_⟩
          by_cases q : i = j
          · rw [q]; exact hin
          · exact a2 i (by omega)
        · exact Or.inr ⟨a1, i, by omega, i2, i3⟩
      · refine V_aload_n C d_M_learn_56 rfl ?_
        refine V_getM C 9 (by decide) wf_M_39 rfl rfl d_M_learn_57 ?_
        refine V_iload_n C d_M_learn_60 rfl ?_
        refine V_iconst (v := 0) C d_M_learn_61 (by decide) ?_
        refine V_zast C 13 60 u (by decide) (fun _ => rfl) rfl (by omega) (by decide) (Or.inl rfl) d_M_learn_62 (fun h2 eh2 => ?_)
        refine V_iinc C [(0, .ref (gA g 4)), (1, .int (nI u)), (2, .int (nI (j + 1)))] d_M_learn_63 rfl (nI_1 _) (by decide) rfl rfl ?_
        refine V_goto C 28 d_M_learn_66 (by decide) ?_
        refine ih (j + 1) h2 (by omega) (by omega) ⟨fun k i q => ?_, Or.inr ⟨by rw [eh2, pu_self], j, by omega, hl, fun q => absurd (c2.symm.trans q) (by decide)⟩⟩ k
        rw [← I.1 k i q, eh2]
        unfold pu
        rw [if_neg q]
set_option maxHeartbeats 4000000 in
theorem lp_ln2 {l : Launch} {R : Room} {args : Array Value} {M : MT} {g : Gh} {Q : State → Prop} {cells slots : Nat} (C : Cx args M g "GameGraphModel" b_M_learn 5) {G : Gr} (E : gOk g ∧ l.stackTraces = false) (hG : Good G) {h0 : Pic} (hM0 : RepM G h0) {u : Nat} (hu : u < Gn G) (hne : ∀ i, i < jt G u → Gx G u i ≠ u) (hRf : 2 ≤ R.frames ∧ 8 + (2 + 11) + 40 ≤ R.locals) (hRc : cells ≤ R.cells ∧ slots ≤ R.slots) (hs : Sane G) (hur : Reach G 0 u) (hk : h0 13 u = 1) (hv : ∀ i, i < jt G u → h0 14 (Gx G u i) = VAL G (Gx G u i) ∧ h0 15 (Gx G u i) = nI (LEN G (Gx G u i))) :
    ∀ (n j : Nat) (h : Pic), j ≤ jt G u → jt G u + 1 ≤ j + n → L2 G h0 h u j → (∀ h' : Pic, L2 G h0 h' u (jt G u) → V l R args M g 5 Q cells slots h' 214 [] []) → V l R args M g 5 Q cells slots h 71 [(0, .ref (gA g 4)), (1, .int (nI u)), (2, .int (nI j))] [] := by
  intro n
  induction n with
  | zero => intro j h b1 b2; omega
  | succ n ih =>
    intro j h b1 b2 I k
    have hn := hG.2.1
    have z12 := jt_le hG hu
    have hM := hM0.fr hn (I.1 4 0 (by omega)) (fun k i h1 h2 => I.1 k i (by omega))
    refine V_iload_n C d_M_learn_71 rfl ?_
    refine V_aload_n C d_M_learn_72 rfl ?_
    refine V_iload_n C d_M_learn_73 rfl ?_
    refine V_callV C "GameGraphModel" (As := [.int (nI u)]) (st := [.int (nI j)]) (c_M_joint E G hG h hM u hu) wc_M_joint (fun _ _ => codeIs) wz_M wl_M_58 wi_M_joint ws_M_joint ⟨by decide, by decide⟩ rfl recvM hRf hRc (Nat.le_of_ble_eq_true rfl) d_M_learn_74 (fun r h1 hp => ?_) (fun X h1 hp => hp.elim)
    obtain ⟨rfl, rfl⟩ := hp
    refine V_icmp_ge C 214 d_M_learn_77 (by decide) (fun c1 => ?_) (fun c1 => ?_)
    · have e := le_ge (by omega) (by omega) c1
      have e : j = jt G u := by omega
      refine V_lv [] rfl ?_
      exact k h1 (e ▸ I)
    · have hl := nle_lt (by omega) (by omega) c1
      have htn := (edge_of hu hl).lt hG
      have htu := hne j hl
      have htr := hur.st (edge_of hu hl)
      refine V_aload_n C d_M_learn_80 rfl ?_
      refine V_getM C 9 (by decide) wf_M_39 rfl rfl d_M_learn_81 ?_
      refine V_iload_n C d_M_learn_84 rfl ?_
      refine V_zald C 13 60 u (by decide) rfl rfl (by omega) (by decide) d_M_learn_85 ?_
      refine V_topi (1) (by rw [I.1 13 u (by omega)]; exact hk) ?_
      refine V_if_eq C 214 d_M_learn_86 (by decide) (fun c2 => ?_) (fun c2 => ?_)
      · exact absurd c2 (by decide)
      · obtain ⟨t, ht⟩ : ∃ t, Gx G u j = t := ⟨_, rfl⟩
        have hvj := hv j hl
        rw [ht] at htn htu htr hvj
        refine V_aload_n C d_M_learn_89 rfl ?_
        refine V_getM C 6 (by decide) wf_M_30 rfl rfl d_M_learn_90 ?_
        refine V_bipush (v := 12) C d_M_learn_93 (by decide) ?_
        refine V_iload_n C d_M_learn_95 rfl ?_
        refine V_imul C d_M_learn_96 ?_
        refine V_iload_n C d_M_learn_97 rfl ?_
        refine V_iadd C d_M_learn_98 ?_
        refine V_topi (nI (12 * u + j)) (ix_12) ?_
        refine V_iald C 10 720 (12 * u + j) (by decide) rfl rfl (by omega) (by decide) d_M_learn_99 ?_
        refine V_topi (nI t) (by rw [(hM.2 u hu).2.2.2 j hl, ht]) ?_
        refine V_istore_n C [(0, .ref (gA g 4)), (1, .int (nI u)), (2, .int (nI j)), (3, .int (nI t))] d_M_learn_100 (by decide) rfl rfl ?_
        have hop : Gop G u = true := by
          by_cases q : Gop G u = true
          · exact q
          · unfold jt at hl; rw [if_neg q] at hl; omega
        have h8 : h1 8 u = Ga G u := ((hM.2 u hu).2.1 hop).1
        have et14 : h1 14 t = VAL G t := (I.1 14 t (fun q => htu q.2)).trans hvj.1
        have et15 : h1 15 t = nI (LEN G t) := (I.1 15 t (fun q => htu q.2)).trans hvj.2
        have hLt := LEN_lt hG hs htn htr
        have hLu : lnf (fun i => LEN G (Gx G u i)) j ≤ 60 := lnf_le (fun i hi => LEN_lt hG hs ((edge_of hu (show i < jt G u by omega)).lt hG) (hur.st (edge_of hu (show i < jt G u by omega))))
        refine ln_better C (by omega) (by omega) h8 (fun bt hbt hbt2 => ?_)
        refine V_istore C [(0, .ref (gA g 4)), (1, .int (nI u)), (2, .int (nI j)), (3, .int (nI t)), (4, .int bt)] d_M_learn_154 (by decide) rfl rfl ?_
        refine ln_value C (by omega) (by omega) (by omega) (fun h2 eh2 => ?_)
        have f2 : ∀ k i, ¬ (k = 14 ∧ i = u) → h2 k i = h1 k i := fun k i q => by
          rw [eh2]
          split
          · unfold pu; rw [if_neg q]
          · rfl
        refine ln_length C (u := u) (t := t) (by omega) (by omega) (p := LEN G t) (q := lnf (fun i => LEN G (Gx G u i)) j) (by omega) hLu (by rw [f2 15 t (by omega)]; exact et15) (by rw [f2 15 u (by omega)]; exact I.2.2) (fun h3 eh3 => ?_)
        have f3 : ∀ k i, ¬ (k = 15 ∧ i = u) → h3 k i = h2 k i := fun k i q => by
          rw [eh3]
          split
          · unfold pu; rw [if_neg q]
          · rfl
        refine V_iinc C [(0, .ref (gA g 4)), (1, .int (nI u)), (2, .int (nI (j + 1)))] d_M_learn_208 rfl (nI_1 _) (by decide) rfl rfl ?_
        refine V_goto C 71 d_M_learn_211 (by decide) ?_
        refine ih (j + 1) h3 (by omega) (by omega) ⟨fun k i q => ?_, ?_, ?_⟩ k
        · rw [f3 k i (by omega), f2 k i (by omega)]; exact I.1 k i q
        · rw [f3 14 u (by omega), if_neg (by omega)]
          have e14 := I.2.1
          by_cases q : j = 0
          · rw [eh2, if_pos (Or.inl q), pu_self, et14]; subst q; show _ = VAL G (Gx G u 0); rw [ht]
          · rw [if_neg q] at e14
            rw [bst_s q, ht, ← e14, ← et14]
            rw [eh2]
            by_cases qb : bt = 0
            · rw [if_neg (fun z => z.elim q (fun y => y qb))]
              have hb := fun z => hbt2.mpr z qb
              by_cases qm : decide (1 < Ga G u) = true
              · rw [if_pos qm] at hb ⊢; rw [if_neg hb]
              · rw [if_neg qm] at hb ⊢; rw [if_neg hb]
            · rw [if_pos (Or.inr qb), pu_self]
              have hb := hbt2.mp qb
              by_cases qm : decide (1 < Ga G u) = true
              · rw [if_pos qm] at hb ⊢; rw [if_pos hb]
              · rw [if_neg qm] at hb ⊢; rw [if_pos hb]
        · rw [eh3]
          show _ = nI (if lnf (fun i => LEN G (Gx G u i)) j < LEN G (Gx G u j) + 1 then LEN G (Gx G u j) + 1 else lnf (fun i => LEN G (Gx G u i)) j)
          rw [ht]
          by_cases q : lnf (fun i => LEN G (Gx G u i)) j < LEN G t + 1
          · rw [if_pos q, if_pos q, pu_self]
          · rw [if_neg q, if_neg q, f2 15 u (by omega)]; exact I.2.2
set_option maxHeartbeats 4000000 in
theorem c_M_learn {l : Launch} {g : Gh} (E : gOk g ∧ l.stackTraces = false) (G : Gr) (hG : Good G) (hs : Sane G) (h : Pic) (hM : RepM G h) (hK : KM G h) (hb : BN G h) (u : Nat) (hu : u < Gn G) (hur : Reach G 0 u) : Ct l g y_M_learn k_M_learn (RM 2 0 0) [.ref (gA g 4), .int (nI u)] h (fun r h' => r = none ∧ FrU u h h' ∧ BN G h' ∧ ((h' 13 u = 1 ∧ h' 14 u = VAL G u ∧ h' 15 u = nI (LEN G u)) ∨ (h' 13 u = 0 ∧ ∃ j, j < jt G u ∧ ¬ In 13 h (Gx G u j)))) (fun _ _ => False) := by
  refine Ct_of E.1 E.2 (by decide) (Nat.le_of_ble_eq_true rfl) (fun M C hr hx => ?_)
  have C : Cx _ M g "GameGraphModel" b_M_learn 5 := C
  refine V_lv [(0, .ref (gA g 4)), (1, .int (nI u))] rfl ?_
  have hn := hG.2.1
  have z12 := jt_le hG hu
  have hne : ∀ i, i < jt G u → Gx G u i ≠ u := fun i hi e => by
    have ee := edge_of hu hi
    have := rk_lt hG ee (hs.2 _ (ee.lt hG) (hur.st ee))
    rw [e] at this
    omega
  refine V_aload_n C d_M_learn_0 rfl ?_
  refine V_getM C 10 (by decide) wf_M_42 rfl rfl d_M_learn_1 ?_
  refine V_iload_n C d_M_learn_4 rfl ?_
  refine V_aload_n C d_M_learn_5 rfl ?_
  refine V_getM C 2 (by decide) wf_M_17 rfl rfl d_M_learn_6 ?_
  refine V_iload_n C d_M_learn_9 rfl ?_
  refine V_iald C 6 60 u (by decide) rfl rfl (by omega) (by decide) d_M_learn_10 ?_
  refine V_iast C 14 60 u (by decide) (fun _ => rfl) rfl (by omega) (by decide) d_M_learn_11 (fun h1 eh1 => ?_)
  refine V_aload_n C d_M_learn_12 rfl ?_
  refine V_getM C 11 (by decide) wf_M_45 rfl rfl d_M_learn_13 ?_
  refine V_iload_n C d_M_learn_16 rfl ?_
  refine V_iconst (v := 0) C d_M_learn_17 (by decide) ?_
  refine V_iast C 15 60 u (by decide) (fun _ => rfl) rfl (by omega) (by decide) d_M_learn_18 (fun h2 eh2 => ?_)
  refine V_aload_n C d_M_learn_19 rfl ?_
  refine V_getM C 9 (by decide) wf_M_39 rfl rfl d_M_learn_20 ?_
  refine V_iload_n C d_M_learn_23 rfl ?_
  refine V_iconst (v := 1) C d_M_learn_24 (by decide) ?_
  refine V_zast C 13 60 u (by decide) (fun _ => rfl) rfl (by omega) (by decide) (Or.inr rfl) d_M_learn_25 (fun h3 eh3 => ?_)
  refine V_iconst (v := 0) C d_M_learn_26 (by decide) ?_
  refine V_istore_n C [(0, .ref (gA g 4)), (1, .int (nI u)), (2, .int 0)] d_M_learn_27 (by decide) rfl rfl ?_
  refine V_lv [(0, .ref (gA g 4)), (1, .int (nI u)), (2, .int (nI 0))] rfl ?_
  have f3 : FrU u h h3 := ((eh1 ▸ FrU.put (by decide) (by decide) : FrU u h h1).tr (eh2 ▸ FrU.put (by decide) (by decide))).tr (eh3 ▸ FrU.put (by decide) (by decide))
  have hM3 := f3.repM hn hM
  have k3 : h3 13 u = 1 := by rw [eh3, pu_self]
  have l3 : h3 15 u = 0 := by rw [eh3, pu_k (by decide), eh2, pu_self]
  have v3 : h3 14 u = h 6 u := by rw [eh3, pu_k (by decide), eh2, pu_k (by decide), eh1, pu_self]
  have v36 : h3 6 u = h 6 u := f3 6 u (by omega)
  have b3 : BN G h3 := fun v hv => by
    by_cases q : v = u
    · rw [q]; exact Or.inr k3
    · rw [f3 13 v (by omega)]; exact hb v hv
  have in3 : ∀ i, i < jt G u → (In 13 h3 (Gx G u i) ↔ In 13 h (Gx G u i)) := fun i hi => by
    unfold In
    rw [f3 13 _ (fun q => hne i hi q.2)]
  refine lp_ln1 C E hG hM3 hu hne ⟨by decide, by decide⟩ ⟨by decide, by decide⟩ b3 (jt G u + 1) 0 h3 (by omega) (by omega) ⟨fun _ _ _ => rfl, Or.inl ⟨k3, fun i hi => by omega⟩⟩ (fun h4 I4 => ?_)
  obtain ⟨f4, I4⟩ := I4
  have f34 : FrU u h h4 := fun k i q => by rw [f4 k i (by omega)]; exact f3 k i q
  have hM4 := f34.repM hn hM
  refine V_iconst (v := 0) C d_M_learn_69 (by decide) ?_
  refine V_istore_n C [(0, .ref (gA g 4)), (1, .int (nI u)), (2, .int 0)] d_M_learn_70 (by decide) rfl rfl ?_
  refine V_lv [(0, .ref (gA g 4)), (1, .int (nI u)), (2, .int (nI 0))] rfl ?_
  rcases I4 with ⟨a1, a2⟩ | ⟨a1, i, i1, i2, i3⟩
  · have hkn : ∀ i, i < jt G u → In 13 h (Gx G u i) := fun i hi => (in3 i hi).mp (a2 i hi)
    have hv : ∀ i, i < jt G u → h4 14 (Gx G u i) = VAL G (Gx G u i) ∧ h4 15 (Gx G u i) = nI (LEN G (Gx G u i)) := fun i hi => by
      rw [f34 14 _ (fun q => hne i hi q.2), f34 15 _ (fun q => hne i hi q.2)]
      exact hK _ ((edge_of hu hi).lt hG) (hkn i hi)
    refine lp_ln2 C E hG hM4 hu hne ⟨by decide, by decide⟩ ⟨by decide, by decide⟩ hs hur a1 hv (jt G u + 1) 0 h4 (by omega) (by omega) ⟨fun _ _ _ => rfl, ?_, ?_⟩ (fun h5 I5 => ?_)
    · rw [if_pos rfl, f4 14 u (by omega), f4 6 u (by omega), v3, v36]
    · rw [f4 15 u (by omega), l3]; rfl
    obtain ⟨f5, g1, g2⟩ := I5
    have f35 : FrU u h h5 := fun k i q => by rw [f5 k i (by omega)]; exact f34 k i q
    have k5 : h5 13 u = 1 := by rw [f5 13 u (by omega)]; exact a1
    refine V_vret C hr d_M_learn_214 ⟨rfl, f35, fun v hv => ?_, Or.inl ⟨k5, ?_, ?_⟩⟩
    · by_cases q : v = u
      · rw [q]; exact Or.inr k5
      · rw [f35 13 v (by omega)]; exact hb v hv
    · rw [g1, VAL_eq hG hs hu hur]
      unfold FV
      have hown := hs.1 u hu hur
      unfold own at hown
      by_cases qo : Gop G u = true
      · rw [if_pos qo] at hown ⊢
        by_cases qj : jt G u = 0
        · rw [if_pos qj] at hown; exact absurd hown (by decide)
        · rw [if_neg qj]
      · have qf : Gop G u = false := by simpa using qo
        have qj : jt G u = 0 := by unfold jt; rw [if_neg qo]
        rw [if_pos qj, if_neg qo, f4 6 u (by omega), v36]
        exact ((hM.2 u hu).2.2.1 qf).1
    · rw [g2, LEN_eq hG hs hu hur]; rfl
  · have fin : FrU u h h4 ∧ BN G h4 ∧ ((h4 13 u = 1 ∧ h4 14 u = VAL G u ∧ h4 15 u = nI (LEN G u)) ∨ (h4 13 u = 0 ∧ ∃ j, j < jt G u ∧ ¬ In 13 h (Gx G u j))) := ⟨f34, fun v hv => by
      by_cases q : v = u
      · rw [q]; exact Or.inl a1
      · rw [f34 13 v (by omega)]; exact hb v hv, Or.inr ⟨a1, i, i2, fun q => i3 ((in3 i i2).mpr q)⟩⟩
    refine V_iload_n C d_M_learn_71 rfl ?_
    refine V_aload_n C d_M_learn_72 rfl ?_
    refine V_iload_n C d_M_learn_73 rfl ?_
    refine V_callV C "GameGraphModel" (As := [.int (nI u)]) (st := [.int (nI 0)]) (c_M_joint E G hG h4 hM4 u hu) wc_M_joint (fun _ _ => codeIs) wz_M wl_M_58 wi_M_joint ws_M_joint ⟨by decide, by decide⟩ rfl recvM ⟨by decide, by decide⟩ ⟨by decide, by decide⟩ (Nat.le_of_ble_eq_true rfl) d_M_learn_74 (fun r h5 hp => ?_) (fun X h1 hp => hp.elim)
    obtain ⟨rfl, rfl⟩ := hp
    refine V_icmp_ge C 214 d_M_learn_77 (by decide) (fun c1 => ?_) (fun c1 => ?_)
    · exact V_vret C hr d_M_learn_214 ⟨rfl, fin⟩
    · refine V_aload_n C d_M_learn_80 rfl ?_
      refine V_getM C 9 (by decide) wf_M_39 rfl rfl d_M_learn_81 ?_
      refine V_iload_n C d_M_learn_84 rfl ?_
      refine V_zald C 13 60 u (by decide) rfl rfl (by omega) (by decide) d_M_learn_85 ?_
      refine V_topi (0) (a1) ?_
      refine V_if_eq C 214 d_M_learn_86 (by decide) (fun c2 => ?_) (fun c2 => ?_)
      · exact V_vret C hr d_M_learn_214 ⟨rfl, fin⟩
      · exact absurd rfl c2
end
section
-- ===== printed by gen/w13.py: the model: asked, value, best, length =====
/-- within a round of asked: round r, states below s done -/
def AR (G : Gr) (h0 h : Pic) (r s : Nat) : Prop := FrA h0 h ∧ BN G h ∧ KM G h ∧ (∀ v, v < Gn G → Reach G 0 v → rk G v < r → In 13 h v) ∧ ∀ v, v < s → v < Gn G → Reach G 0 v → rk G v < r + 1 → In 13 h v
theorem AR.nxt {G : Gr} {h0 h : Pic} {r s : Nat} (a : AR G h0 h r s) (hs : s < Gn G → Reach G 0 s → rk G s < r + 1 → In 13 h s) : AR G h0 h r (s + 1) := by
  obtain ⟨a1, a2, a3, a4, a5⟩ := a
  refine ⟨a1, a2, a3, a4, fun v hv => ?_⟩
  by_cases q : v = s
  · subst q; exact hs
  · exact a5 v (by omega)
theorem AR.round {G : Gr} {h0 h : Pic} {r : Nat} (a : AR G h0 h r (Gn G)) : AR G h0 h (r + 1) 0 :=
  ⟨a.1, a.2.1, a.2.2.1, fun v hv => a.2.2.2.2 v hv hv, fun v hv => by omega⟩
theorem AR.learn {G : Gr} (hG : Good G) (hs : Sane G) {h0 h h' : Pic} {r s : Nat} (a : AR G h0 h r s) (hsn : s < Gn G) (hr : Reach G 0 s) (hno : ¬ In 13 h s) (f : FrU s h h') (hb : BN G h') (hc : (h' 13 s = 1 ∧ h' 14 s = VAL G s ∧ h' 15 s = nI (LEN G s)) ∨ (h' 13 s = 0 ∧ ∃ j, j < jt G s ∧ ¬ In 13 h (Gx G s j))) : AR G h0 h' r (s + 1) := by
  obtain ⟨a1, a2, a3, a4, a5⟩ := a
  have e : ∀ k v, v ≠ s → h' k v = h k v := fun k v q => f k v (by omega)
  have mono : ∀ v, In 13 h v → In 13 h' v := fun v hv => by
    by_cases q : v = s
    · subst q; exact absurd hv hno
    · unfold In; rw [e 13 v q]; exact hv
  refine ⟨a1.tr f.frA, hb, fun v hv hi => ?_, fun v hv h1 h2 => mono v (a4 v hv h1 h2), fun v hv hvn h1 h2 => ?_⟩
  · by_cases q : v = s
    · subst q
      rcases hc with hc | hc
      · exact hc.2
      · exact absurd (hi.symm.trans hc.1) (by decide)
    · rw [e 14 v q, e 15 v q]
      refine a3 v hv ?_
      unfold In at hi
      rw [e 13 v q] at hi
      exact hi
  · by_cases q : v = s
    · subst q
      rcases hc with hc | ⟨_, j, j1, j2⟩
      · exact hc.1
      · have ee := edge_of hsn j1
        have hrt := hr.st ee
        have := rk_lt hG ee (hs.2 _ (ee.lt hG) hrt)
        exact absurd (a4 _ (ee.lt hG) hrt (by omega)) j2
    · exact mono v (a5 v (by omega) hvn h1 h2)
set_option maxHeartbeats 4000000 in
theorem lp_as1 {l : Launch} {R : Room} {args : Array Value} {M : MT} {g : Gh} {Q : State → Prop} {cells slots : Nat} (C : Cx args M g "GameGraphModel" b_M_asked 4) {G : Gr} (hG : Good G) {h0 : Pic} (hM0 : RepM G h0) {x : Int32} :
    ∀ (n j : Nat) (h : Pic), j ≤ Gn G → Gn G + 1 ≤ j + n → FrT 13 h0 h → (∀ i, i < j → h 13 i = 0) → (∀ h' : Pic, FrT 13 h0 h' → (∀ i, i < Gn G → h' 13 i = 0) → V l R args M g 4 Q cells slots h' 70 [(0, .ref (gA g 4)), (1, .int x)] []) → V l R args M g 4 Q cells slots h 49 [(0, .ref (gA g 4)), (1, .int x), (2, .int (nI j))] [] := by
  intro n
  induction n with
  | zero => intro j h b1 b2; omega
  | succ n ih =>
    intro j h b1 b2 hF hI k
    have hn := hG.2.1
    have hM := hF.repM hn (by decide) hM0
    refine V_iload_n C d_M_asked_49 rfl ?_
    refine V_aload_n C d_M_asked_50 rfl ?_
    refine V_getM C 0 (by decide) wf_M_7 rfl rfl d_M_asked_51 ?_
    refine V_topi (nI (Gn G)) (hM.1) ?_
    refine V_icmp_ge C 70 d_M_asked_54 (by decide) (fun c1 => ?_) (fun c1 => ?_)
    · have e := le_ge (by omega) (by omega) c1
      refine V_lv [(0, .ref (gA g 4)), (1, .int x)] rfl ?_
      exact k h hF (fun i hi => hI i (by omega))
    · have hl := nle_lt (by omega) (by omega) c1
      refine V_aload_n C d_M_asked_57 rfl ?_
      refine V_getM C 9 (by decide) wf_M_39 rfl rfl d_M_asked_58 ?_
      refine V_iload_n C d_M_asked_61 rfl ?_
      refine V_iconst (v := 0) C d_M_asked_62 (by decide) ?_
      refine V_zast C 13 60 j (by decide) (fun _ => rfl) rfl (by omega) (by decide) (Or.inl rfl) d_M_asked_63 (fun h1 eh1 => ?_)
      refine V_iinc C [(0, .ref (gA g 4)), (1, .int x), (2, .int (nI (j + 1)))] d_M_asked_64 rfl (nI_1 _) (by decide) rfl rfl ?_
      refine V_goto C 49 d_M_asked_67 (by decide) ?_
      refine ih (j + 1) h1 (by omega) (by omega) (hF.tr (eh1 ▸ FrT.put)) (fun i hi => ?_) k
      rw [eh1]
      unfold pu
      by_cases q : i = j
      · rw [if_pos ⟨rfl, q⟩]
      · rw [if_neg (fun z => q z.2)]; exact hI i (by omega)
set_option maxHeartbeats 4000000 in
theorem lp_as2 {l : Launch} {R : Room} {args : Array Value} {M : MT} {g : Gh} {Q : State → Prop} {cells slots : Nat} (C : Cx args M g "GameGraphModel" b_M_asked 4) {G : Gr} (E : gOk g ∧ l.stackTraces = false) (hG : Good G) (hs : Sane G) {h0 : Pic} (hM0 : RepM G h0) (hb : B01 11 h0) (hi : ∀ v, v < Gn G → (In 11 h0 v ↔ Reach G 0 v)) {x : Int32} (hRf : 3 ≤ R.frames ∧ 8 + (5 + 11) + 80 ≤ R.locals) (hRc : cells ≤ R.cells ∧ slots ≤ R.slots) {r : Nat} :
    ∀ (n j : Nat) (h : Pic), j ≤ Gn G → Gn G + 1 ≤ j + n → AR G h0 h r j → (∀ h' : Pic, AR G h0 h' r (Gn G) → V l R args M g 4 Q cells slots h' 119 [(0, .ref (gA g 4)), (1, .int x), (2, .int (nI r))] []) → V l R args M g 4 Q cells slots h 82 [(0, .ref (gA g 4)), (1, .int x), (2, .int (nI r)), (3, .int (nI j))] [] := by
  intro n
  induction n with
  | zero => intro j h b1 b2; omega
  | succ n ih =>
    intro j h b1 b2 I k
    have hn := hG.2.1
    have hM := I.1.repM hn hM0
    refine V_iload_n C d_M_asked_82 rfl ?_
    refine V_aload_n C d_M_asked_83 rfl ?_
    refine V_getM C 0 (by decide) wf_M_7 rfl rfl d_M_asked_84 ?_
    refine V_topi (nI (Gn G)) (hM.1) ?_
    refine V_icmp_ge C 119 d_M_asked_87 (by decide) (fun c1 => ?_) (fun c1 => ?_)
    · have e := le_ge (by omega) (by omega) c1
      have e : j = Gn G := by omega
      refine V_lv [(0, .ref (gA g 4)), (1, .int x), (2, .int (nI r))] rfl ?_
      exact k h (e ▸ I)
    · have hl := nle_lt (by omega) (by omega) c1
      refine V_aload_n C d_M_asked_90 rfl ?_
      refine V_getM C 7 (by decide) wf_M_33 rfl rfl d_M_asked_91 ?_
      refine V_iload_n C d_M_asked_94 rfl ?_
      refine V_zald C 11 60 j (by decide) rfl rfl (by omega) (by decide) d_M_asked_95 ?_
      refine V_topi (h0 11 j) (I.1 11 j (by omega)) ?_
      refine V_if_eq C 113 d_M_asked_96 (by decide) (fun c2 => ?_) (fun c2 => ?_)
      · refine V_iinc C [(0, .ref (gA g 4)), (1, .int x), (2, .int (nI r)), (3, .int (nI (j + 1)))] d_M_asked_113 rfl (nI_1 _) (by decide) rfl rfl ?_
        refine V_goto C 82 d_M_asked_116 (by decide) ?_
        exact ih (j + 1) h (by omega) (by omega) (I.nxt (fun _ hr _ => absurd (((hi j hl).mpr hr).symm.trans c2) (by decide))) k
      · have hy : Reach G 0 j := (hi j hl).mp ((hb j (by omega)).resolve_left c2)
        refine V_aload_n C d_M_asked_99 rfl ?_
        refine V_getM C 9 (by decide) wf_M_39 rfl rfl d_M_asked_100 ?_
        refine V_iload_n C d_M_asked_103 rfl ?_
        refine V_zald C 13 60 j (by decide) rfl rfl (by omega) (by decide) d_M_asked_104 ?_
        refine V_if_ne C 113 d_M_asked_105 (by decide) (fun c3 => ?_) (fun c3 => ?_)
        · refine V_iinc C [(0, .ref (gA g 4)), (1, .int x), (2, .int (nI r)), (3, .int (nI (j + 1)))] d_M_asked_113 rfl (nI_1 _) (by decide) rfl rfl ?_
          refine V_goto C 82 d_M_asked_116 (by decide) ?_
          exact ih (j + 1) h (by omega) (by omega) (I.nxt (fun _ _ _ => (I.2.1 j (by omega)).resolve_left c3)) k
        · refine V_aload_n C d_M_asked_108 rfl ?_
          refine V_iload_n C d_M_asked_109 rfl ?_
          refine V_callV C "GameGraphModel" (As := [.int (nI j)]) (st := []) (c_M_learn E G hG hs h hM I.2.2.1 I.2.1 j hl hy) wc_M_learn (fun _ _ => codeIs) wz_M wl_M_83 wi_M_learn ws_M_learn ⟨by decide, by decide⟩ rfl recvM hRf hRc (Nat.le_of_ble_eq_true rfl) d_M_asked_110 (fun r h1 hp => ?_) (fun X h1 hp => hp.elim)
          obtain ⟨rfl, f1, b3, hc⟩ := hp
          refine V_iinc C [(0, .ref (gA g 4)), (1, .int x), (2, .int (nI r)), (3, .int (nI (j + 1)))] d_M_asked_113 rfl (nI_1 _) (by decide) rfl rfl ?_
          refine V_goto C 82 d_M_asked_116 (by decide) ?_
          exact ih (j + 1) h1 (by omega) (by omega) (I.learn hG hs hl hy (fun q => absurd (c3.symm.trans q) (by decide)) f1 b3 hc) k
set_option maxHeartbeats 4000000 in
theorem lp_as3 {l : Launch} {R : Room} {args : Array Value} {M : MT} {g : Gh} {Q : State → Prop} {cells slots : Nat} (C : Cx args M g "GameGraphModel" b_M_asked 4) {G : Gr} (E : gOk g ∧ l.stackTraces = false) (hG : Good G) (hs : Sane G) {h0 : Pic} (hM0 : RepM G h0) (hb : B01 11 h0) (hi : ∀ v, v < Gn G → (In 11 h0 v ↔ Reach G 0 v)) {x : Int32} (hRf : 3 ≤ R.frames ∧ 8 + (5 + 11) + 80 ≤ R.locals) (hRc : cells ≤ R.cells ∧ slots ≤ R.slots) :
    ∀ (n j : Nat) (h : Pic), j ≤ Gn G → Gn G + 1 ≤ j + n → AR G h0 h j 0 → (∀ h' : Pic, AR G h0 h' (Gn G) 0 → V l R args M g 4 Q cells slots h' 125 [] []) → V l R args M g 4 Q cells slots h 72 [(0, .ref (gA g 4)), (1, .int x), (2, .int (nI j))] [] := by
  intro n
  induction n with
  | zero => intro j h b1 b2; omega
  | succ n ih =>
    intro j h b1 b2 I k
    have hn := hG.2.1
    have hM := I.1.repM hn hM0
    refine V_iload_n C d_M_asked_72 rfl ?_
    refine V_aload_n C d_M_asked_73 rfl ?_
    refine V_getM C 0 (by decide) wf_M_7 rfl rfl d_M_asked_74 ?_
    refine V_topi (nI (Gn G)) (hM.1) ?_
    refine V_icmp_ge C 125 d_M_asked_77 (by decide) (fun c1 => ?_) (fun c1 => ?_)
    · have e := le_ge (by omega) (by omega) c1
      have e : j = Gn G := by omega
      refine V_lv [] rfl ?_
      exact k h (e ▸ I)
    · have hl := nle_lt (by omega) (by omega) c1
      refine V_iconst (v := 0) C d_M_asked_80 (by decide) ?_
      refine V_istore_n C [(0, .ref (gA g 4)), (1, .int x), (2, .int (nI j)), (3, .int 0)] d_M_asked_81 (by decide) rfl rfl ?_
      refine V_lv [(0, .ref (gA g 4)), (1, .int x), (2, .int (nI j)), (3, .int (nI 0))] rfl ?_
      refine lp_as2 C E hG hs hM0 hb hi hRf hRc (Gn G + 1) 0 h (by omega) (by omega) I (fun h1 I1 => ?_)
      refine V_iinc C [(0, .ref (gA g 4)), (1, .int x), (2, .int (nI (j + 1)))] d_M_asked_119 rfl (nI_1 _) (by decide) rfl rfl ?_
      refine V_goto C 72 d_M_asked_122 (by decide) ?_
      exact ih (j + 1) h1 (by omega) (by omega) I1.round k
/-- what asked(x) leaves -/
def Ask (G : Gr) (h h' : Pic) (x : Int32) (r : Int32) : Prop := SameX h h' ∧ RepM G h' ∧ ((r = 1 ∧ h' 4 12 = 0 ∧ Sane G ∧ (∃ u, u < Gn G ∧ x = nI u ∧ Reach G 0 u) ∧ ∀ v, v < Gn G → Reach G 0 v → h' 14 v = VAL G v ∧ h' 15 v = nI (LEN G v)) ∨ (r = 0 ∧ h' 4 12 = 1 ∧ ¬ Sane G) ∨ (r = 0 ∧ h' 4 12 = 2 ∧ Sane G ∧ ¬ ∃ u, u < Gn G ∧ x = nI u ∧ Reach G 0 u))
set_option maxHeartbeats 4000000 in
theorem c_M_asked {l : Launch} {g : Gh} (E : gOk g ∧ l.stackTraces = false) (G : Gr) (hG : Good G) (h : Pic) (hM : RepM G h) (x : Int32) : Ct l g y_M_asked k_M_asked (RM 5 0 0) [.ref (gA g 4), .int x] h (fun r h' => ∃ v, r = some (.int v) ∧ Ask G h h' x v) (fun _ _ => False) := by
  refine Ct_of E.1 E.2 (by decide) (Nat.le_of_ble_eq_true rfl) (fun M C hr hx => ?_)
  have C : Cx _ M g "GameGraphModel" b_M_asked 4 := C
  refine V_lv [(0, .ref (gA g 4)), (1, .int x)] rfl ?_
  have hn := hG.2.1
  refine V_aload_n C d_M_asked_0 rfl ?_
  refine V_aload_n C d_M_asked_1 rfl ?_
  refine V_callV C "GameGraphModel" (As := []) (st := [.ref (gA g 4)]) (c_M_defective E G hG h hM) wc_M_defective (fun _ _ => codeIs) wz_M wl_M_79 wi_M_defective ws_M_defective ⟨by decide, by decide⟩ rfl recvM ⟨by decide, by decide⟩ ⟨by decide, by decide⟩ (Nat.le_of_ble_eq_true rfl) d_M_asked_2 (fun r h1 hp => ?_) (fun X h1 hp => hp.elim)
  obtain ⟨d, w, hd, rfl, f1, hb1, hi1⟩ := hp
  have hM1 : RepM G h1 := hM.fr hn (f1 4 0 (by decide) (by decide)) (fun k i q1 q2 => f1 k i (by omega) (by omega))
  have hX1 : ∀ h2 : Pic, (∀ k i, k < 4 ∨ 16 ≤ k → h2 k i = h1 k i) → SameX h h2 := fun h2 f => fun k hk => funext fun i => (f k i hk).trans (f1 k i (by omega) (by omega))
  refine V_iconst (v := (-1)) C d_M_asked_5 (by decide) ?_
  refine V_icmp_eq C 13 d_M_asked_6 (by decide) (fun c1 => ?_) (fun c1 => ?_)
  · have hs : Sane G := by
      rcases hd.at with ⟨_, _, e⟩ | ⟨u, hu, e, _⟩
      · exact e
      · exact absurd (e.symm.trans c1) (nI_nm1 (by omega))
    refine V_aload_n C d_M_asked_13 rfl ?_
    refine V_iload_n C d_M_asked_14 rfl ?_
    refine V_callV C "GameGraphModel" (As := [.int x]) (st := [.ref (gA g 4)]) (c_M_isState E h1 (Gn G) hn hM1.1 x) wc_M_isState (fun _ _ => codeIs) wz_M wl_M_51 wi_M_isState ws_M_isState ⟨by decide, by decide⟩ rfl recvM ⟨by decide, by decide⟩ ⟨by decide, by decide⟩ (Nat.le_of_ble_eq_true rfl) d_M_asked_15 (fun r h1x hp => ?_) (fun X h1 hp => hp.elim)
    obtain ⟨e1x, hp⟩ := hp
    rw [e1x]
    rcases hp with ⟨rfl, u, hu, rfl⟩ | ⟨rfl, hno⟩
    · refine V_lv [(0, .ref (gA g 4)), (1, .int (nI u))] rfl ?_
      refine V_if_eq C 30 d_M_asked_18 (by decide) (fun c2 => ?_) (fun c2 => ?_)
      · exact absurd c2 (by decide)
      · refine V_aload_n C d_M_asked_21 rfl ?_
        refine V_getM C 7 (by decide) wf_M_33 rfl rfl d_M_asked_22 ?_
        refine V_iload_n C d_M_asked_25 rfl ?_
        refine V_zald C 11 60 u (by decide) rfl rfl (by omega) (by decide) d_M_asked_26 ?_
        refine V_if_ne C 34 d_M_asked_27 (by decide) (fun c3 => ?_) (fun c3 => ?_)
        · have hy : Reach G 0 u := (hi1 u hu).mp ((hb1 u (by omega)).resolve_left c3)
          refine V_iconst (v := 0) C d_M_asked_34 (by decide) ?_
          refine V_putM C 12 (by decide) wf_M_48 rfl rfl rfl rfl d_M_asked_35 (fun h2 eh2 => ?_)
          refine V_aload_n C d_M_asked_38 rfl ?_
          refine V_getM C 12 (by decide) wf_M_48 rfl rfl d_M_asked_39 ?_
          refine V_topi (0) (by rw [eh2, pu_self]) ?_
          refine V_if_eq C 47 d_M_asked_42 (by decide) (fun cz => ?_) (fun cz => ?_)
          · have hM2 : RepM G h2 := eh2 ▸ hM1.th hn
            have hb2 : B01 11 h2 := fun v hv => by rw [eh2, pu_k (by decide)]; exact hb1 v hv
            have hi2 : ∀ v, v < Gn G → (In 11 h2 v ↔ Reach G 0 v) := fun v hv => by unfold In; rw [eh2, pu_k (by decide)]; exact hi1 v hv
            refine V_iconst (v := 0) C d_M_asked_47 (by decide) ?_
            refine V_istore_n C [(0, .ref (gA g 4)), (1, .int (nI u)), (2, .int 0)] d_M_asked_48 (by decide) rfl rfl ?_
            refine V_lv [(0, .ref (gA g 4)), (1, .int (nI u)), (2, .int (nI 0))] rfl ?_
            refine lp_as1 C hG hM2 (Gn G + 1) 0 h2 (by omega) (by omega) FrT.rf (fun i hi => by omega) (fun h3 f3 hz => ?_)
            have hM3 := f3.repM hn (by decide) hM2
            have hb3 : B01 11 h3 := fun v hv => by rw [f3 11 v (by decide)]; exact hb2 v hv
            have hi3 : ∀ v, v < Gn G → (In 11 h3 v ↔ Reach G 0 v) := fun v hv => by unfold In; rw [f3 11 v (by decide)]; exact hi2 v hv
            refine V_iconst (v := 0) C d_M_asked_70 (by decide) ?_
            refine V_istore_n C [(0, .ref (gA g 4)), (1, .int (nI u)), (2, .int 0)] d_M_asked_71 (by decide) rfl rfl ?_
            refine V_lv [(0, .ref (gA g 4)), (1, .int (nI u)), (2, .int (nI 0))] rfl ?_
            refine lp_as3 C E hG hs hM3 hb3 hi3 ⟨by decide, by decide⟩ ⟨by decide, by decide⟩ (Gn G + 1) 0 h3 (by omega) (by omega) ⟨fun _ _ _ => rfl, fun v hv => Or.inl (hz v hv), fun v hv q => absurd ((hz v hv).symm.trans q) (by decide), fun v hv _ q => by omega, fun v hv => by omega⟩ (fun h4 I4 => ?_)
            refine V_iconst (v := 1) C d_M_asked_125 (by decide) ?_
            have f4 := I4.1
            exact V_iret C hr rfl d_M_asked_126 ⟨_, rfl, hX1 h4 (fun k i q => by rw [f4 k i (by omega), f3 k i (by omega), eh2, pu_k (by omega)]), f4.repM hn hM3, Or.inl ⟨rfl, by rw [f4 4 12 (by omega), f3 4 12 (by omega), eh2, pu_self], hs, ⟨u, hu, rfl, hy⟩, fun v hv hr => I4.2.2.1 v hv (I4.2.2.2.1 v hv hr (rk_bd hv (hs.2 v hv hr)))⟩⟩
          · exact absurd rfl cz
        · refine V_iconst (v := 2) C d_M_asked_30 (by decide) ?_
          refine V_goto C 35 d_M_asked_31 (by decide) ?_
          refine V_putM C 12 (by decide) wf_M_48 rfl rfl rfl rfl d_M_asked_35 (fun h2 eh2 => ?_)
          refine V_aload_n C d_M_asked_38 rfl ?_
          refine V_getM C 12 (by decide) wf_M_48 rfl rfl d_M_asked_39 ?_
          refine V_topi (2) (by rw [eh2, pu_self]) ?_
          refine V_if_eq C 47 d_M_asked_42 (by decide) (fun cz => ?_) (fun cz => ?_)
          · exact absurd cz (by decide)
          · refine V_iconst (v := 0) C d_M_asked_45 (by decide) ?_
            exact V_iret C hr rfl d_M_asked_46 ⟨_, rfl, hX1 h2 (fun k i q => by rw [eh2, pu_k (by omega)]), eh2 ▸ hM1.th hn, Or.inr (Or.inr ⟨rfl, by rw [eh2, pu_self], hs, fun ⟨v, v1, v2, v3⟩ => absurd (((hi1 v v1).mpr v3).symm.trans ((nI_eq (by omega) (by omega)).mp v2 ▸ c3)) (by decide)⟩)⟩
    · refine V_if_eq C 30 d_M_asked_18 (by decide) (fun c2 => ?_) (fun c2 => ?_)
      · refine V_iconst (v := 2) C d_M_asked_30 (by decide) ?_
        refine V_goto C 35 d_M_asked_31 (by decide) ?_
        refine V_putM C 12 (by decide) wf_M_48 rfl rfl rfl rfl d_M_asked_35 (fun h2 eh2 => ?_)
        refine V_aload_n C d_M_asked_38 rfl ?_
        refine V_getM C 12 (by decide) wf_M_48 rfl rfl d_M_asked_39 ?_
        refine V_topi (2) (by rw [eh2, pu_self]) ?_
        refine V_if_eq C 47 d_M_asked_42 (by decide) (fun cz => ?_) (fun cz => ?_)
        · exact absurd cz (by decide)
        · refine V_iconst (v := 0) C d_M_asked_45 (by decide) ?_
          exact V_iret C hr rfl d_M_asked_46 ⟨_, rfl, hX1 h2 (fun k i q => by rw [eh2, pu_k (by omega)]), eh2 ▸ hM1.th hn, Or.inr (Or.inr ⟨rfl, by rw [eh2, pu_self], hs, fun ⟨v, v1, v2, _⟩ => hno ⟨v, v1, v2⟩⟩)⟩
      · exact absurd rfl c2
  · have hs : ¬ Sane G := by
      rcases hd.at with ⟨e, _⟩ | ⟨u, hu, e, hns, _⟩
      · exact absurd e c1
      · exact hns
    refine V_iconst (v := 1) C d_M_asked_9 (by decide) ?_
    refine V_goto C 35 d_M_asked_10 (by decide) ?_
    refine V_putM C 12 (by decide) wf_M_48 rfl rfl rfl rfl d_M_asked_35 (fun h2 eh2 => ?_)
    refine V_aload_n C d_M_asked_38 rfl ?_
    refine V_getM C 12 (by decide) wf_M_48 rfl rfl d_M_asked_39 ?_
    refine V_topi (1) (by rw [eh2, pu_self]) ?_
    refine V_if_eq C 47 d_M_asked_42 (by decide) (fun cz => ?_) (fun cz => ?_)
    · exact absurd cz (by decide)
    · refine V_iconst (v := 0) C d_M_asked_45 (by decide) ?_
      exact V_iret C hr rfl d_M_asked_46 ⟨_, rfl, hX1 h2 (fun k i q => by rw [eh2, pu_k (by omega)]), eh2 ▸ hM1.th hn, Or.inr (Or.inl ⟨rfl, by rw [eh2, pu_self], hs⟩)⟩
set_option maxHeartbeats 4000000 in
theorem c_M_value {l : Launch} {g : Gh} (E : gOk g ∧ l.stackTraces = false) (G : Gr) (hG : Good G) (h : Pic) (hM : RepM G h) (x : Int32) : Ct l g y_M_value k_M_value (RM 6 0 0) [.ref (gA g 4), .int x] h (fun r h' => SameX h h' ∧ RepM G h' ∧ ∃ v, r = some (.int v) ∧ ((h' 4 12 = 0 ∧ Sane G ∧ ∃ u, u < Gn G ∧ x = nI u ∧ Reach G 0 u ∧ v = VAL G u) ∨ (h' 4 12 = 1 ∧ ¬ Sane G) ∨ (h' 4 12 = 2 ∧ Sane G ∧ ¬ ∃ u, u < Gn G ∧ x = nI u ∧ Reach G 0 u))) (fun _ _ => False) := by
  refine Ct_of E.1 E.2 (by decide) (Nat.le_of_ble_eq_true rfl) (fun M C hr hx => ?_)
  have C : Cx _ M g "GameGraphModel" b_M_value 2 := C
  refine V_lv [(0, .ref (gA g 4)), (1, .int x)] rfl ?_
  have hn := hG.2.1
  refine V_aload_n C d_M_value_0 rfl ?_
  refine V_iload_n C d_M_value_1 rfl ?_
  refine V_callV C "GameGraphModel" (As := [.int x]) (st := []) (c_M_asked E G hG h hM x) wc_M_asked (fun _ _ => codeIs) wz_M wl_M_87 wi_M_asked ws_M_asked ⟨by decide, by decide⟩ rfl recvM ⟨by decide, by decide⟩ ⟨by decide, by decide⟩ (Nat.le_of_ble_eq_true rfl) d_M_value_2 (fun r h1 hp => ?_) (fun X h1 hp => hp.elim)
  obtain ⟨v, rfl, hX, hM1, hp⟩ := hp
  rcases hp with ⟨rfl, h12, hs, ⟨u, hu, rfl, hur⟩, hv⟩ | ⟨rfl, h12, hns⟩ | ⟨rfl, h12, hs, hno⟩
  · refine V_lv [(0, .ref (gA g 4)), (1, .int (nI u))] rfl ?_
    refine V_if_eq C 17 d_M_value_5 (by decide) (fun c1 => ?_) (fun c1 => ?_)
    · exact absurd c1 (by decide)
    · refine V_aload_n C d_M_value_8 rfl ?_
      refine V_getM C 10 (by decide) wf_M_42 rfl rfl d_M_value_9 ?_
      refine V_iload_n C d_M_value_12 rfl ?_
      refine V_iald C 14 60 u (by decide) rfl rfl (by omega) (by decide) d_M_value_13 ?_
      refine V_topi (VAL G u) ((hv u hu hur).1) ?_
      refine V_goto C 18 d_M_value_14 (by decide) ?_
      exact V_iret C hr rfl d_M_value_18 ⟨hX, hM1, _, rfl, Or.inl ⟨h12, hs, u, hu, rfl, hur, rfl⟩⟩
  · refine V_if_eq C 17 d_M_value_5 (by decide) (fun c1 => ?_) (fun c1 => ?_)
    · refine V_iconst (v := 0) C d_M_value_17 (by decide) ?_
      exact V_iret C hr rfl d_M_value_18 ⟨hX, hM1, _, rfl, Or.inr (Or.inl ⟨h12, hns⟩)⟩
    · exact absurd rfl c1
  · refine V_if_eq C 17 d_M_value_5 (by decide) (fun c1 => ?_) (fun c1 => ?_)
    · refine V_iconst (v := 0) C d_M_value_17 (by decide) ?_
      exact V_iret C hr rfl d_M_value_18 ⟨hX, hM1, _, rfl, Or.inr (Or.inr ⟨h12, hs, hno⟩)⟩
    · exact absurd rfl c1
set_option maxHeartbeats 4000000 in
theorem c_M_length {l : Launch} {g : Gh} (E : gOk g ∧ l.stackTraces = false) (G : Gr) (hG : Good G) (h : Pic) (hM : RepM G h) (x : Int32) : Ct l g y_M_length k_M_length (RM 6 0 0) [.ref (gA g 4), .int x] h (fun r h' => SameX h h' ∧ RepM G h' ∧ ∃ v, r = some (.int v) ∧ ((h' 4 12 = 0 ∧ Sane G ∧ ∃ u, u < Gn G ∧ x = nI u ∧ Reach G 0 u ∧ v = nI (LEN G u)) ∨ (h' 4 12 = 1 ∧ ¬ Sane G) ∨ (h' 4 12 = 2 ∧ Sane G ∧ ¬ ∃ u, u < Gn G ∧ x = nI u ∧ Reach G 0 u))) (fun _ _ => False) := by
  refine Ct_of E.1 E.2 (by decide) (Nat.le_of_ble_eq_true rfl) (fun M C hr hx => ?_)
  have C : Cx _ M g "GameGraphModel" b_M_length 2 := C
  refine V_lv [(0, .ref (gA g 4)), (1, .int x)] rfl ?_
  have hn := hG.2.1
  refine V_aload_n C d_M_length_0 rfl ?_
  refine V_iload_n C d_M_length_1 rfl ?_
  refine V_callV C "GameGraphModel" (As := [.int x]) (st := []) (c_M_asked E G hG h hM x) wc_M_asked (fun _ _ => codeIs) wz_M wl_M_87 wi_M_asked ws_M_asked ⟨by decide, by decide⟩ rfl recvM ⟨by decide, by decide⟩ ⟨by decide, by decide⟩ (Nat.le_of_ble_eq_true rfl) d_M_length_2 (fun r h1 hp => ?_) (fun X h1 hp => hp.elim)
  obtain ⟨v, rfl, hX, hM1, hp⟩ := hp
  rcases hp with ⟨rfl, h12, hs, ⟨u, hu, rfl, hur⟩, hv⟩ | ⟨rfl, h12, hns⟩ | ⟨rfl, h12, hs, hno⟩
  · refine V_lv [(0, .ref (gA g 4)), (1, .int (nI u))] rfl ?_
    refine V_if_eq C 17 d_M_length_5 (by decide) (fun c1 => ?_) (fun c1 => ?_)
    · exact absurd c1 (by decide)
    · refine V_aload_n C d_M_length_8 rfl ?_
      refine V_getM C 11 (by decide) wf_M_45 rfl rfl d_M_length_9 ?_
      refine V_iload_n C d_M_length_12 rfl ?_
      refine V_iald C 15 60 u (by decide) rfl rfl (by omega) (by decide) d_M_length_13 ?_
      refine V_topi (nI (LEN G u)) ((hv u hu hur).2) ?_
      refine V_goto C 18 d_M_length_14 (by decide) ?_
      exact V_iret C hr rfl d_M_length_18 ⟨hX, hM1, _, rfl, Or.inl ⟨h12, hs, u, hu, rfl, hur, rfl⟩⟩
  · refine V_if_eq C 17 d_M_length_5 (by decide) (fun c1 => ?_) (fun c1 => ?_)
    · refine V_iconst (v := 0) C d_M_length_17 (by decide) ?_
      exact V_iret C hr rfl d_M_length_18 ⟨hX, hM1, _, rfl, Or.inr (Or.inl ⟨h12, hns⟩)⟩
    · exact absurd rfl c1
  · refine V_if_eq C 17 d_M_length_5 (by decide) (fun c1 => ?_) (fun c1 => ?_)
    · refine V_iconst (v := 0) C d_M_length_17 (by decide) ?_
      exact V_iret C hr rfl d_M_length_18 ⟨hX, hM1, _, rfl, Or.inr (Or.inr ⟨h12, hs, hno⟩)⟩
    · exact absurd rfl c1
set_option maxHeartbeats 4000000 in
theorem lp_M_best {l : Launch} {R : Room} {args : Array Value} {M : MT} {g : Gh} {Q : State → Prop} {cells slots : Nat} (C : Cx args M g "GameGraphModel" b_M_best 3) {G : Gr} (E : gOk g ∧ l.stackTraces = false) (hG : Good G) {h : Pic} (hM : RepM G h) {u : Nat} (hu : u < Gn G) (hur : Reach G 0 u) (hv : ∀ v, v < Gn G → Reach G 0 v → h 14 v = VAL G v) (hRf : 2 ≤ R.frames ∧ 8 + (2 + 11) + 40 ≤ R.locals) (hRc : cells ≤ R.cells ∧ slots ≤ R.slots) :
    ∀ (n j : Nat) (hh : Pic), j ≤ jt G u → jt G u + 1 ≤ j + n → hh = h → (∀ i, i < j → VAL G (Gx G u i) ≠ VAL G u) → (∀ r, Best G u r → V l R args M g 3 Q cells slots h 47 [] [.int r]) → (∀ r, Best G u r → V l R args M g 3 Q cells slots h 55 [] [.int r]) → V l R args M g 3 Q cells slots hh 12 [(0, .ref (gA g 4)), (1, .int (nI u)), (2, .int (nI j))] [] := by
  intro n
  induction n with
  | zero => intro j hh b1 b2; omega
  | succ n ih =>
    intro j hh b1 b2 e hno k1 k2
    subst e
    have hn := hG.2.1
    have z12 := jt_le hG hu
    refine V_iload_n C d_M_best_12 rfl ?_
    refine V_aload_n C d_M_best_13 rfl ?_
    refine V_iload_n C d_M_best_14 rfl ?_
    refine V_callV C "GameGraphModel" (As := [.int (nI u)]) (st := [.int (nI j)]) (c_M_joint E G hG hh hM u hu) wc_M_joint (fun _ _ => codeIs) wz_M wl_M_58 wi_M_joint ws_M_joint ⟨by decide, by decide⟩ rfl recvM hRf hRc (Nat.le_of_ble_eq_true rfl) d_M_best_15 (fun r h1 hp => ?_) (fun X h1 hp => hp.elim)
    obtain ⟨rfl, rfl⟩ := hp
    refine V_icmp_ge C 54 d_M_best_18 (by decide) (fun c1 => ?_) (fun c1 => ?_)
    · have e := le_ge (by omega) (by omega) c1
      refine V_iconst (v := (-1)) C d_M_best_54 (by decide) ?_
      refine V_lv [] rfl ?_
      exact k2 (-1) (Or.inr ⟨rfl, fun i hi => hno i (by omega)⟩)
    · have hl := nle_lt (by omega) (by omega) c1
      have htn := (edge_of hu hl).lt hG
      have htr := hur.st (edge_of hu hl)
      refine V_aload_n C d_M_best_21 rfl ?_
      refine V_getM C 10 (by decide) wf_M_42 rfl rfl d_M_best_22 ?_
      refine V_aload_n C d_M_best_25 rfl ?_
      refine V_getM C 6 (by decide) wf_M_30 rfl rfl d_M_best_26 ?_
      refine V_bipush (v := 12) C d_M_best_29 (by decide) ?_
      refine V_iload_n C d_M_best_31 rfl ?_
      refine V_imul C d_M_best_32 ?_
      refine V_iload_n C d_M_best_33 rfl ?_
      refine V_iadd C d_M_best_34 ?_
      refine V_topi (nI (12 * u + j)) (ix_12) ?_
      refine V_iald C 10 720 (12 * u + j) (by decide) rfl rfl (by omega) (by decide) d_M_best_35 ?_
      refine V_topi (nI (Gx G u j)) ((hM.2 u hu).2.2.2 j hl) ?_
      refine V_iald C 14 60 (Gx G u j) (by decide) rfl rfl (by omega) (by decide) d_M_best_36 ?_
      refine V_topi (VAL G (Gx G u j)) (hv _ htn htr) ?_
      refine V_aload_n C d_M_best_37 rfl ?_
      refine V_getM C 10 (by decide) wf_M_42 rfl rfl d_M_best_38 ?_
      refine V_iload_n C d_M_best_41 rfl ?_
      refine V_iald C 14 60 u (by decide) rfl rfl (by omega) (by decide) d_M_best_42 ?_
      refine V_topi (VAL G u) (hv u hu hur) ?_
      refine V_icmp_ne C 48 d_M_best_43 (by decide) (fun c2 => ?_) (fun c2 => ?_)
      · refine V_iinc C [(0, .ref (gA g 4)), (1, .int (nI u)), (2, .int (nI (j + 1)))] d_M_best_48 rfl (nI_1 _) (by decide) rfl rfl ?_
        refine V_goto C 12 d_M_best_51 (by decide) ?_
        refine ih (j + 1) h1 (by omega) (by omega) rfl (fun i hi => ?_) k1 k2
        by_cases q : i = j
        · rw [q]; exact c2
        · exact hno i (by omega)
      · refine V_iload_n C d_M_best_46 rfl ?_
        refine V_lv [] rfl ?_
        exact k1 _ (Or.inl ⟨j, hl, rfl, c2, hno⟩)
set_option maxHeartbeats 4000000 in
theorem c_M_best {l : Launch} {g : Gh} (E : gOk g ∧ l.stackTraces = false) (G : Gr) (hG : Good G) (h : Pic) (hM : RepM G h) (x : Int32) : Ct l g y_M_best k_M_best (RM 6 0 0) [.ref (gA g 4), .int x] h (fun r h' => SameX h h' ∧ RepM G h' ∧ ∃ v, r = some (.int v) ∧ ((h' 4 12 = 0 ∧ Sane G ∧ ∃ u, u < Gn G ∧ x = nI u ∧ Reach G 0 u ∧ Best G u v) ∨ (h' 4 12 = 1 ∧ ¬ Sane G) ∨ (h' 4 12 = 2 ∧ Sane G ∧ ¬ ∃ u, u < Gn G ∧ x = nI u ∧ Reach G 0 u))) (fun _ _ => False) := by
  refine Ct_of E.1 E.2 (by decide) (Nat.le_of_ble_eq_true rfl) (fun M C hr hx => ?_)
  have C : Cx _ M g "GameGraphModel" b_M_best 3 := C
  refine V_lv [(0, .ref (gA g 4)), (1, .int x)] rfl ?_
  have hn := hG.2.1
  refine V_aload_n C d_M_best_0 rfl ?_
  refine V_iload_n C d_M_best_1 rfl ?_
  refine V_callV C "GameGraphModel" (As := [.int x]) (st := []) (c_M_asked E G hG h hM x) wc_M_asked (fun _ _ => codeIs) wz_M wl_M_87 wi_M_asked ws_M_asked ⟨by decide, by decide⟩ rfl recvM ⟨by decide, by decide⟩ ⟨by decide, by decide⟩ (Nat.le_of_ble_eq_true rfl) d_M_best_2 (fun r h1 hp => ?_) (fun X h1 hp => hp.elim)
  obtain ⟨v, rfl, hX, hM1, hp⟩ := hp
  rcases hp with ⟨rfl, h12, hs, ⟨u, hu, rfl, hur⟩, hv⟩ | ⟨rfl, h12, hns⟩ | ⟨rfl, h12, hs, hno⟩
  · refine V_lv [(0, .ref (gA g 4)), (1, .int (nI u))] rfl ?_
    refine V_if_ne C 10 d_M_best_5 (by decide) (fun c1 => ?_) (fun c1 => ?_)
    · refine V_iconst (v := 0) C d_M_best_10 (by decide) ?_
      refine V_istore_n C [(0, .ref (gA g 4)), (1, .int (nI u)), (2, .int 0)] d_M_best_11 (by decide) rfl rfl ?_
      refine V_lv [(0, .ref (gA g 4)), (1, .int (nI u)), (2, .int (nI 0))] rfl ?_
      refine lp_M_best C E hG hM1 hu hur (fun v h1 h2 => (hv v h1 h2).1) ⟨by decide, by decide⟩ ⟨by decide, by decide⟩ (jt G u + 1) 0 h1 (by omega) (by omega) rfl (fun i hi => by omega) (fun r hb => ?_) (fun r hb => ?_)
      · exact V_iret C hr rfl d_M_best_47 ⟨hX, hM1, _, rfl, Or.inl ⟨h12, hs, u, hu, rfl, hur, hb⟩⟩
      · exact V_iret C hr rfl d_M_best_55 ⟨hX, hM1, _, rfl, Or.inl ⟨h12, hs, u, hu, rfl, hur, hb⟩⟩
    · exact absurd c1 (by decide)
  · refine V_if_ne C 10 d_M_best_5 (by decide) (fun c1 => ?_) (fun c1 => ?_)
    · exact absurd rfl c1
    · refine V_iconst (v := 0) C d_M_best_8 (by decide) ?_
      exact V_iret C hr rfl d_M_best_9 ⟨hX, hM1, _, rfl, Or.inr (Or.inl ⟨h12, hns⟩)⟩
  · refine V_if_ne C 10 d_M_best_5 (by decide) (fun c1 => ?_) (fun c1 => ?_)
    · exact absurd rfl c1
    · refine V_iconst (v := 0) C d_M_best_8 (by decide) ?_
      exact V_iret C hr rfl d_M_best_9 ⟨hX, hM1, _, rfl, Or.inr (Or.inr ⟨h12, hs, hno⟩)⟩
end
section
-- ===== printed by gen/w14.py: the law's own wrappers =====
theorem InvC.same {G : Gr} (hn : Gn G ≤ 60) {h h' : Pic} (hI : InvC G h) (hs : SameC h h') : InvC G h' := by
  obtain ⟨a, b, c⟩ := hI
  have e0 : h' 0 = h 0 := hs 0 (by omega)
  have e1 : ∀ v, h' (17 + v) = h (17 + v) := fun v => hs _ (by omega)
  refine ⟨a.same hs, by rw [e0]; exact b, fun q => ?_⟩
  rw [e0] at q
  obtain ⟨⟨k1, k2, k3, k4⟩, k5, k6⟩ := c q
  refine ⟨⟨k1.same hs, fun v hv => by unfold flg; rw [e1]; exact k2 v hv, fun v hv => by rw [e1]; exact k3 v hv, by rw [e0]; exact k4⟩, by rw [e0]; exact k5, fun hsn w hw hr => ?_⟩
  unfold BO
  rw [e1]
  exact k6 hsn w hw hr
theorem InvC.new {G : Gr} {h : Pic} (hC : RepC G h) (e : h 0 2 = 0) : InvC G h := ⟨hC, Or.inl e, fun q => absurd (e.symm.trans q) (by decide)⟩
def SameN (h h' : Pic) : Prop := ∀ k, 4 ≤ k → k ≤ 15 → h' k = h k
theorem SameM.n {h h' : Pic} (s : SameM h h') : SameN h h' := fun k h1 h2 => s k h1 (by omega)
theorem SameN.put {h h' h2 : Pic} {v : Int32} (s : SameM h h') (e : h2 = pu h' 16 0 v) : SameN h h2 := fun k h1 h2 => by rw [e, pu_row (by omega)]; exact s k h1 (by omega)
theorem RepM.sameN {G : Gr} (hn : Gn G ≤ 60) {h h' : Pic} (hR : RepM G h) (hs : SameN h h') : RepM G h' := hR.fr hn (by rw [hs 4 (by omega) (by omega)]) (fun k i h1 h2 => by rw [hs k (by omega) (by omega)])
theorem sameC_out {h h' : Pic} {v : Int32} (e : h' = pu h 16 0 v) : SameC h h' := fun k hk => by rw [e]; exact pu_row (by omega)
set_option maxHeartbeats 4000000 in
theorem c_L_states {l : Launch} {g : Gh} (E : gOk g ∧ l.stackTraces = false) (G : Gr) (h : Pic) (hG : Good G) (hI : InvC G h) (x : Int32) : Ct l g y_L_states k_L_states (RM 90 2 12) [.ref (gA g 0), .int x] h (fun r h' => ∃ k, r = some (.int k) ∧ SameM h h' ∧ ((k = 0 ∧ ∃ m, 1 ≤ m ∧ m ≤ 60 ∧ x = nI m ∧ InvC (gStates G m) h') ∨ (k = 1 ∧ ¬ (1 ≤ x ∧ x ≤ 60) ∧ InvC G h'))) (fun _ _ => False) := by
  refine Ct_ofW E.1 E.2 (by decide) (Nat.le_of_ble_eq_true rfl) (fun M C hr hx => ?_)
  have C : Cx _ M g "GameGraphLaw" b_L_states 3 := C
  refine V_lv [(0, .ref (gA g 0)), (1, .int x)] rfl ?_
  refine V_aload_n C d_L_states_0 rfl ?_
  refine V_iload_n C d_L_states_1 rfl ?_
  refine V_callV C "GameGraph" (As := [.int x]) (st := []) (c_G_states E G h hG hI.1 x) wc_G_states (fun _ _ => codeIs) wz_G wl_L_7 wi_G_states ws_G_states ⟨by decide, by decide⟩ rfl recvG ⟨by decide, by decide⟩ ⟨by decide, by decide⟩ (Nat.le_of_ble_eq_true rfl) d_L_states_2 (fun r h1 hp => ?_) (fun X h1 hp => ?_)
  · obtain ⟨rfl, m, m1, m2, m3, hC, e2, hS⟩ := hp
    refine V_goto C 11 d_L_states_5 (by decide) ?_
    refine V_iconst (v := 0) C d_L_states_11 (by decide) ?_
    refine V_wide (c' := 2) (s' := 12) (by decide) (by decide) ?_
    exact V_iret C hr rfl d_L_states_12 ⟨_, rfl, hS, Or.inl ⟨rfl, m, m1, m2, m3, InvC.new hC e2⟩⟩
  · obtain ⟨rfl, rfl, hno⟩ := hp
    refine VX_wide (c' := 2) (s' := 12) (by decide) (by decide) (VX_catch C hx 8 (fun S la a cell hpl hW hcell hst hX => find_hit (x := ⟨0, 5, 8, 13⟩) hpl C.2.2.2.1 hW (C.w wk_L_13) rfl (by decide) hcell hst hX (C.w wy_IA)) (fun ad => ?_))
    refine V_astore_n C [(0, .ref (gA g 0)), (1, .int x), (2, .ref ad)] d_L_states_8 (by decide) rfl rfl ?_
    refine V_iconst (v := 1) C d_L_states_9 (by decide) ?_
    exact V_iret C hr rfl d_L_states_10 ⟨_, rfl, SameM.rf, Or.inr ⟨rfl, hno, hI⟩⟩
set_option maxHeartbeats 4000000 in
theorem c_L_end {l : Launch} {g : Gh} (E : gOk g ∧ l.stackTraces = false) (G : Gr) (h : Pic) (hG : Good G) (hI : InvC G h) (x a b : Int32) : Ct l g y_L_end k_L_end (RM 90 2 12) [.ref (gA g 0), .int x, .int a, .int b] h (fun r h' => ∃ k, r = some (.int k) ∧ SameM h h' ∧ ((k = 0 ∧ ∃ u, u < Gn G ∧ x = nI u ∧ okEnd a b ∧ InvC (gEnd G u a b) h') ∨ (k = 1 ∧ (¬ ∃ u, u < Gn G ∧ x = nI u) ∧ InvC G h') ∨ (k = 2 ∧ (∃ u, u < Gn G ∧ x = nI u) ∧ ¬ okEnd a b ∧ InvC G h'))) (fun _ _ => False) := by
  refine Ct_ofW E.1 E.2 (by decide) (Nat.le_of_ble_eq_true rfl) (fun M C hr hx => ?_)
  have C : Cx _ M g "GameGraphLaw" b_L_end 5 := C
  refine V_lv [(0, .ref (gA g 0)), (1, .int x), (2, .int a), (3, .int b)] rfl ?_
  refine V_aload_n C d_L_end_0 rfl ?_
  refine V_iload_n C d_L_end_1 rfl ?_
  refine V_iload_n C d_L_end_2 rfl ?_
  refine V_iload_n C d_L_end_3 rfl ?_
  refine V_callV C "GameGraph" (As := [.int x, .int a, .int b]) (st := []) (c_G_end E G h hG hI.1 x a b) wc_G_end (fun _ _ => codeIs) wz_G wl_L_15 wi_G_end ws_G_end ⟨by decide, by decide⟩ rfl recvG ⟨by decide, by decide⟩ ⟨by decide, by decide⟩ (Nat.le_of_ble_eq_true rfl) d_L_end_4 (fun r h1 hp => ?_) (fun X h1 hp => ?_)
  · obtain ⟨rfl, u, u1, u2, u3, hC, e2, hS⟩ := hp
    refine V_goto C 18 d_L_end_7 (by decide) ?_
    refine V_iconst (v := 0) C d_L_end_18 (by decide) ?_
    exact V_iret C hr rfl d_L_end_19 ⟨_, rfl, hS, Or.inl ⟨rfl, u, u1, u2, u3, InvC.new hC e2⟩⟩
  · obtain ⟨rfl, ⟨rfl, hno⟩ | ⟨rfl, hu, hno⟩⟩ := hp
    · refine VX_wide (c' := 2) (s' := 12) (by decide) (by decide) (VX_catch C hx 10 (fun S la a cell hpl hW hcell hst hX => find_hit (x := ⟨0, 7, 10, 19⟩) hpl C.2.2.2.1 hW (C.w wk_L_19) rfl (by decide) hcell hst hX (C.w wy_IO)) (fun ad => ?_))
      refine V_astore C [(0, .ref (gA g 0)), (1, .int x), (2, .int a), (3, .int b), (4, .ref ad)] d_L_end_10 (by decide) rfl rfl ?_
      refine V_iconst (v := 1) C d_L_end_12 (by decide) ?_
      exact V_iret C hr rfl d_L_end_13 ⟨_, rfl, SameM.rf, Or.inr (Or.inl ⟨rfl, fun ⟨u, u1, u2⟩ => hno u u1 u2, hI⟩)⟩
    · refine VX_wide (c' := 2) (s' := 12) (by decide) (by decide) (VX_catch C hx 14 (fun S la a cell hpl hW hcell hst hX => find_pass (x := ⟨0, 7, 10, 19⟩) hpl C.2.2.2.1 hW (C.w wk_L_19) rfl (by decide) hcell hst hX (C.w wnc_1) (fun vm1 hW1 => find_hit (x := ⟨0, 7, 14, 13⟩) hpl C.2.2.2.1 hW1 (C.w wk_L_13) rfl (by decide) hcell hst hX (C.w wy_IA))) (fun ad => ?_))
      refine V_astore C [(0, .ref (gA g 0)), (1, .int x), (2, .int a), (3, .int b), (4, .ref ad)] d_L_end_14 (by decide) rfl rfl ?_
      refine V_iconst (v := 2) C d_L_end_16 (by decide) ?_
      exact V_iret C hr rfl d_L_end_17 ⟨_, rfl, SameM.rf, Or.inr (Or.inr ⟨rfl, hu, hno, hI⟩)⟩
set_option maxHeartbeats 4000000 in
theorem c_L_open {l : Launch} {g : Gh} (E : gOk g ∧ l.stackTraces = false) (G : Gr) (h : Pic) (hG : Good G) (hI : InvC G h) (x a b : Int32) : Ct l g y_L_open k_L_open (RM 90 2 12) [.ref (gA g 0), .int x, .int a, .int b] h (fun r h' => ∃ k, r = some (.int k) ∧ SameM h h' ∧ ((k = 0 ∧ ∃ u, u < Gn G ∧ x = nI u ∧ okOpen a b ∧ InvC (gOpen G u a b) h') ∨ (k = 1 ∧ (¬ ∃ u, u < Gn G ∧ x = nI u) ∧ InvC G h') ∨ (k = 2 ∧ (∃ u, u < Gn G ∧ x = nI u) ∧ ¬ okOpen a b ∧ InvC G h'))) (fun _ _ => False) := by
  refine Ct_ofW E.1 E.2 (by decide) (Nat.le_of_ble_eq_true rfl) (fun M C hr hx => ?_)
  have C : Cx _ M g "GameGraphLaw" b_L_open 5 := C
  refine V_lv [(0, .ref (gA g 0)), (1, .int x), (2, .int a), (3, .int b)] rfl ?_
  refine V_aload_n C d_L_open_0 rfl ?_
  refine V_iload_n C d_L_open_1 rfl ?_
  refine V_iload_n C d_L_open_2 rfl ?_
  refine V_iload_n C d_L_open_3 rfl ?_
  refine V_callV C "GameGraph" (As := [.int x, .int a, .int b]) (st := []) (c_G_open E G h hG hI.1 x a b) wc_G_open (fun _ _ => codeIs) wz_G wl_L_21 wi_G_open ws_G_open ⟨by decide, by decide⟩ rfl recvG ⟨by decide, by decide⟩ ⟨by decide, by decide⟩ (Nat.le_of_ble_eq_true rfl) d_L_open_4 (fun r h1 hp => ?_) (fun X h1 hp => ?_)
  · obtain ⟨rfl, u, u1, u2, u3, hC, e2, hS⟩ := hp
    refine V_goto C 18 d_L_open_7 (by decide) ?_
    refine V_iconst (v := 0) C d_L_open_18 (by decide) ?_
    exact V_iret C hr rfl d_L_open_19 ⟨_, rfl, hS, Or.inl ⟨rfl, u, u1, u2, u3, InvC.new hC e2⟩⟩
  · obtain ⟨rfl, ⟨rfl, hno⟩ | ⟨rfl, hu, hno⟩⟩ := hp
    · refine VX_wide (c' := 2) (s' := 12) (by decide) (by decide) (VX_catch C hx 10 (fun S la a cell hpl hW hcell hst hX => find_hit (x := ⟨0, 7, 10, 19⟩) hpl C.2.2.2.1 hW (C.w wk_L_19) rfl (by decide) hcell hst hX (C.w wy_IO)) (fun ad => ?_))
      refine V_astore C [(0, .ref (gA g 0)), (1, .int x), (2, .int a), (3, .int b), (4, .ref ad)] d_L_open_10 (by decide) rfl rfl ?_
      refine V_iconst (v := 1) C d_L_open_12 (by decide) ?_
      exact V_iret C hr rfl d_L_open_13 ⟨_, rfl, SameM.rf, Or.inr (Or.inl ⟨rfl, fun ⟨u, u1, u2⟩ => hno u u1 u2, hI⟩)⟩
    · refine VX_wide (c' := 2) (s' := 12) (by decide) (by decide) (VX_catch C hx 14 (fun S la a cell hpl hW hcell hst hX => find_pass (x := ⟨0, 7, 10, 19⟩) hpl C.2.2.2.1 hW (C.w wk_L_19) rfl (by decide) hcell hst hX (C.w wnc_1) (fun vm1 hW1 => find_hit (x := ⟨0, 7, 14, 13⟩) hpl C.2.2.2.1 hW1 (C.w wk_L_13) rfl (by decide) hcell hst hX (C.w wy_IA))) (fun ad => ?_))
      refine V_astore C [(0, .ref (gA g 0)), (1, .int x), (2, .int a), (3, .int b), (4, .ref ad)] d_L_open_14 (by decide) rfl rfl ?_
      refine V_iconst (v := 2) C d_L_open_16 (by decide) ?_
      exact V_iret C hr rfl d_L_open_17 ⟨_, rfl, SameM.rf, Or.inr (Or.inr ⟨rfl, hu, hno, hI⟩)⟩
set_option maxHeartbeats 4000000 in
theorem c_L_link {l : Launch} {g : Gh} (E : gOk g ∧ l.stackTraces = false) (G : Gr) (h : Pic) (hG : Good G) (hI : InvC G h) (x y z : Int32) : Ct l g y_L_link k_L_link (RM 90 2 12) [.ref (gA g 0), .int x, .int y, .int z] h (fun r h' => ∃ k, r = some (.int k) ∧ SameM h h' ∧ ((k = 0 ∧ ∃ u j t, u < Gn G ∧ x = nI u ∧ j < jt G u ∧ y = nI j ∧ t < Gn G ∧ z = nI t ∧ InvC (gLink G u j t) h') ∨ (k = 1 ∧ (¬ ∃ u j t, u < Gn G ∧ x = nI u ∧ j < jt G u ∧ y = nI j ∧ t < Gn G ∧ z = nI t) ∧ InvC G h'))) (fun _ _ => False) := by
  refine Ct_ofW E.1 E.2 (by decide) (Nat.le_of_ble_eq_true rfl) (fun M C hr hx => ?_)
  have C : Cx _ M g "GameGraphLaw" b_L_link 5 := C
  refine V_lv [(0, .ref (gA g 0)), (1, .int x), (2, .int y), (3, .int z)] rfl ?_
  refine V_aload_n C d_L_link_0 rfl ?_
  refine V_iload_n C d_L_link_1 rfl ?_
  refine V_iload_n C d_L_link_2 rfl ?_
  refine V_iload_n C d_L_link_3 rfl ?_
  refine V_callV C "GameGraph" (As := [.int x, .int y, .int z]) (st := []) (c_G_link E G h hG hI.1 x y z) wc_G_link (fun _ _ => codeIs) wz_G wl_L_24 wi_G_link ws_G_link ⟨by decide, by decide⟩ rfl recvG ⟨by decide, by decide⟩ ⟨by decide, by decide⟩ (Nat.le_of_ble_eq_true rfl) d_L_link_4 (fun r h1 hp => ?_) (fun X h1 hp => ?_)
  · obtain ⟨rfl, u, j, t, u1, u2, u3, u4, u5, u6, hC, e2, hS⟩ := hp
    refine V_goto C 14 d_L_link_7 (by decide) ?_
    refine V_iconst (v := 0) C d_L_link_14 (by decide) ?_
    exact V_iret C hr rfl d_L_link_15 ⟨_, rfl, hS, Or.inl ⟨rfl, u, j, t, u1, u2, u3, u4, u5, u6, InvC.new hC e2⟩⟩
  · obtain ⟨rfl, rfl, hno⟩ := hp
    refine VX_wide (c' := 2) (s' := 12) (by decide) (by decide) (VX_catch C hx 10 (fun S la a cell hpl hW hcell hst hX => find_hit (x := ⟨0, 7, 10, 19⟩) hpl C.2.2.2.1 hW (C.w wk_L_19) rfl (by decide) hcell hst hX (C.w wy_IO)) (fun ad => ?_))
    refine V_astore C [(0, .ref (gA g 0)), (1, .int x), (2, .int y), (3, .int z), (4, .ref ad)] d_L_link_10 (by decide) rfl rfl ?_
    refine V_iconst (v := 1) C d_L_link_12 (by decide) ?_
    exact V_iret C hr rfl d_L_link_13 ⟨_, rfl, SameM.rf, Or.inr ⟨rfl, hno, hI⟩⟩
set_option maxHeartbeats 4000000 in
theorem c_L_next {l : Launch} {g : Gh} (E : gOk g ∧ l.stackTraces = false) (G : Gr) (h : Pic) (hG : Good G) (hI : InvC G h) (x y : Int32) : Ct l g y_L_next k_L_next (RM 90 2 12) [.ref (gA g 0), .int x, .int y, .ref (gA g 16)] h (fun r h' => ∃ k, r = some (.int k) ∧ SameN h h' ∧ InvC G h' ∧ ((k = 0 ∧ ∃ u j, u < Gn G ∧ x = nI u ∧ j < jt G u ∧ y = nI j ∧ h' 16 0 = nI (Gx G u j)) ∨ (k = 1 ∧ ¬ ∃ u j, u < Gn G ∧ x = nI u ∧ j < jt G u ∧ y = nI j))) (fun _ _ => False) := by
  refine Ct_ofW E.1 E.2 (by decide) (Nat.le_of_ble_eq_true rfl) (fun M C hr hx => ?_)
  have C : Cx _ M g "GameGraphLaw" b_L_next 5 := C
  refine V_lv [(0, .ref (gA g 0)), (1, .int x), (2, .int y), (3, .ref (gA g 16))] rfl ?_
  have hn := hG.2.1
  refine V_aload_n C d_L_next_0 rfl ?_
  refine V_iconst (v := 0) C d_L_next_1 (by decide) ?_
  refine V_aload_n C d_L_next_2 rfl ?_
  refine V_iload_n C d_L_next_3 rfl ?_
  refine V_iload_n C d_L_next_4 rfl ?_
  refine V_callV C "GameGraph" (As := [.int x, .int y]) (st := [.int 0, .ref (gA g 16)]) (c_G_next E G h hG hI.1 x y) wc_G_next (fun _ _ => codeIs) wz_G wl_L_27 wi_G_next ws_G_next ⟨by decide, by decide⟩ rfl recvG ⟨by decide, by decide⟩ ⟨by decide, by decide⟩ (Nat.le_of_ble_eq_true rfl) d_L_next_5 (fun r h1 hp => ?_) (fun X h1 hp => ?_)
  · obtain ⟨rfl, u, j, u1, u2, u3, u4, rfl⟩ := hp
    refine V_i2l C d_L_next_8 ?_
    refine V_last C d_L_next_9 (fun h2 eh2 => ?_)
    refine V_goto C 17 d_L_next_10 (by decide) ?_
    refine V_iconst (v := 0) C d_L_next_17 (by decide) ?_
    exact V_iret C hr rfl d_L_next_18 ⟨_, rfl, SameN.put SameM.rf eh2, hI.same hn (sameC_out eh2), Or.inl ⟨rfl, u, j, u1, u2, u3, u4, by rw [eh2, pu_self]⟩⟩
  · obtain ⟨rfl, rfl, hno⟩ := hp
    refine VX_wide (c' := 2) (s' := 12) (by decide) (by decide) (VX_catch C hx 13 (fun S la a cell hpl hW hcell hst hX => find_hit (x := ⟨0, 10, 13, 19⟩) hpl C.2.2.2.1 hW (C.w wk_L_19) rfl (by decide) hcell hst hX (C.w wy_IO)) (fun ad => ?_))
    refine V_astore C [(0, .ref (gA g 0)), (1, .int x), (2, .int y), (3, .ref (gA g 16)), (4, .ref ad)] d_L_next_13 (by decide) rfl rfl ?_
    refine V_iconst (v := 1) C d_L_next_15 (by decide) ?_
    exact V_iret C hr rfl d_L_next_16 ⟨_, rfl, SameM.rf.n, hI, Or.inr ⟨rfl, hno⟩⟩
set_option maxHeartbeats 4000000 in
theorem c_L_defect {l : Launch} {g : Gh} (E : gOk g ∧ l.stackTraces = false) (G : Gr) (h : Pic) (hG : Good G) (hI : InvC G h) (x : Int32) : Ct l g y_L_defect k_L_defect (RM 90 2 12) [.ref (gA g 0), .int x, .ref (gA g 16)] h (fun r h' => ∃ k, r = some (.int k) ∧ SameN h h' ∧ InvC G h' ∧ ((k = 0 ∧ (x = 0 ∨ x = 1) ∧ ∃ d w, Def G d w ∧ h' 16 0 = if x = 0 then d else w) ∨ (k = 1 ∧ ¬ (x = 0 ∨ x = 1)))) (fun _ _ => False) := by
  refine Ct_ofW E.1 E.2 (by decide) (Nat.le_of_ble_eq_true rfl) (fun M C hr hx => ?_)
  have C : Cx _ M g "GameGraphLaw" b_L_defect 4 := C
  refine V_lv [(0, .ref (gA g 0)), (1, .int x), (2, .ref (gA g 16))] rfl ?_
  have hn := hG.2.1
  refine V_aload_n C d_L_defect_0 rfl ?_
  refine V_iconst (v := 0) C d_L_defect_1 (by decide) ?_
  refine V_aload_n C d_L_defect_2 rfl ?_
  refine V_iload_n C d_L_defect_3 rfl ?_
  refine V_callV C "GameGraph" (As := [.int x]) (st := [.int 0, .ref (gA g 16)]) (c_G_defect E G h hG hI x) wc_G_defect (fun _ _ => codeIs) wz_G wl_L_31 wi_G_defect ws_G_defect ⟨by decide, by decide⟩ rfl recvG ⟨by decide, by decide⟩ ⟨by decide, by decide⟩ (Nat.le_of_ble_eq_true rfl) d_L_defect_4 (fun r h1 hp => ?_) (fun X h1 hp => ?_)
  · obtain ⟨hx1, ⟨d, w, hd, rfl⟩, hI1, hS⟩ := hp
    refine V_i2l C d_L_defect_7 ?_
    refine V_last C d_L_defect_8 (fun h2 eh2 => ?_)
    refine V_goto C 15 d_L_defect_9 (by decide) ?_
    refine V_iconst (v := 0) C d_L_defect_15 (by decide) ?_
    refine V_wide (c' := 2) (s' := 12) (by decide) (by decide) ?_
    exact V_iret C hr rfl d_L_defect_16 ⟨_, rfl, SameN.put hS eh2, hI1.same hn (sameC_out eh2), Or.inl ⟨rfl, hx1, d, w, hd, by rw [eh2, pu_self]⟩⟩
  · obtain ⟨rfl, rfl, hno⟩ := hp
    refine VX_wide (c' := 2) (s' := 12) (by decide) (by decide) (VX_catch C hx 12 (fun S la a cell hpl hW hcell hst hX => find_hit (x := ⟨0, 9, 12, 13⟩) hpl C.2.2.2.1 hW (C.w wk_L_13) rfl (by decide) hcell hst hX (C.w wy_IA)) (fun ad => ?_))
    refine V_astore_n C [(0, .ref (gA g 0)), (1, .int x), (2, .ref (gA g 16)), (3, .ref ad)] d_L_defect_12 (by decide) rfl rfl ?_
    refine V_iconst (v := 1) C d_L_defect_13 (by decide) ?_
    exact V_iret C hr rfl d_L_defect_14 ⟨_, rfl, SameM.rf.n, hI, Or.inr ⟨rfl, hno⟩⟩
set_option maxHeartbeats 4000000 in
theorem c_L_value {l : Launch} {g : Gh} (E : gOk g ∧ l.stackTraces = false) (G : Gr) (h : Pic) (hG : Good G) (hI : InvC G h) (x : Int32) : Ct l g y_L_value k_L_value (RM 90 2 12) [.ref (gA g 0), .int x, .ref (gA g 16)] h (fun r h' => ∃ k, r = some (.int k) ∧ SameN h h' ∧ InvC G h' ∧ ((k = 0 ∧ Sane G ∧ ∃ u, u < Gn G ∧ x = nI u ∧ Reach G 0 u ∧ h' 16 0 = VAL G u) ∨ (k = 1 ∧ ¬ Sane G) ∨ (k = 2 ∧ Sane G ∧ ¬ ∃ u, u < Gn G ∧ x = nI u ∧ Reach G 0 u))) (fun _ _ => False) := by
  refine Ct_ofW E.1 E.2 (by decide) (Nat.le_of_ble_eq_true rfl) (fun M C hr hx => ?_)
  have C : Cx _ M g "GameGraphLaw" b_L_value 4 := C
  refine V_lv [(0, .ref (gA g 0)), (1, .int x), (2, .ref (gA g 16))] rfl ?_
  have hn := hG.2.1
  refine V_aload_n C d_L_value_0 rfl ?_
  refine V_iconst (v := 0) C d_L_value_1 (by decide) ?_
  refine V_aload_n C d_L_value_2 rfl ?_
  refine V_iload_n C d_L_value_3 rfl ?_
  refine V_callV C "GameGraph" (As := [.int x]) (st := [.int 0, .ref (gA g 16)]) (c_G_value E G h hG hI x) wc_G_value (fun _ _ => codeIs) wz_G wl_L_35 wi_G_value ws_G_value ⟨by decide, by decide⟩ rfl recvG ⟨by decide, by decide⟩ ⟨by decide, by decide⟩ (Nat.le_of_ble_eq_true rfl) d_L_value_4 (fun r h1 hp => ?_) (fun X h1 hp => ?_)
  · obtain ⟨hs, ⟨u, u1, u2, u3, rfl⟩, hI1, hS⟩ := hp
    refine V_i2l C d_L_value_7 ?_
    refine V_last C d_L_value_8 (fun h2 eh2 => ?_)
    refine V_goto C 18 d_L_value_9 (by decide) ?_
    refine V_iconst (v := 0) C d_L_value_18 (by decide) ?_
    exact V_iret C hr rfl d_L_value_19 ⟨_, rfl, SameN.put hS eh2, hI1.same hn (sameC_out eh2), Or.inl ⟨rfl, hs, u, u1, u2, u3, by rw [eh2, pu_self]⟩⟩
  · obtain ⟨hI1, hS, ⟨rfl, hns⟩ | ⟨rfl, hs, hno⟩⟩ := hp
    · refine VX_wide (c' := 2) (s' := 12) (by decide) (by decide) (VX_catch C hx 12 (fun S la a cell hpl hW hcell hst hX => find_hit (x := ⟨0, 9, 12, 38⟩) hpl C.2.2.2.1 hW (C.w wk_L_38) rfl (by decide) hcell hst hX (C.w wy_IS)) (fun ad => ?_))
      refine V_astore_n C [(0, .ref (gA g 0)), (1, .int x), (2, .ref (gA g 16)), (3, .ref ad)] d_L_value_12 (by decide) rfl rfl ?_
      refine V_iconst (v := 1) C d_L_value_13 (by decide) ?_
      exact V_iret C hr rfl d_L_value_14 ⟨_, rfl, hS.n, hI1, Or.inr (Or.inl ⟨rfl, hns⟩)⟩
    · refine VX_wide (c' := 2) (s' := 12) (by decide) (by decide) (VX_catch C hx 15 (fun S la a cell hpl hW hcell hst hX => find_pass (x := ⟨0, 9, 12, 38⟩) hpl C.2.2.2.1 hW (C.w wk_L_38) rfl (by decide) hcell hst hX (C.w wnc_2) (fun vm1 hW1 => find_hit (x := ⟨0, 9, 15, 19⟩) hpl C.2.2.2.1 hW1 (C.w wk_L_19) rfl (by decide) hcell hst hX (C.w wy_IO))) (fun ad => ?_))
      refine V_astore_n C [(0, .ref (gA g 0)), (1, .int x), (2, .ref (gA g 16)), (3, .ref ad)] d_L_value_15 (by decide) rfl rfl ?_
      refine V_iconst (v := 2) C d_L_value_16 (by decide) ?_
      exact V_iret C hr rfl d_L_value_17 ⟨_, rfl, hS.n, hI1, Or.inr (Or.inr ⟨rfl, hs, hno⟩)⟩
set_option maxHeartbeats 4000000 in
theorem c_L_length {l : Launch} {g : Gh} (E : gOk g ∧ l.stackTraces = false) (G : Gr) (h : Pic) (hG : Good G) (hI : InvC G h) (x : Int32) : Ct l g y_L_length k_L_length (RM 90 2 12) [.ref (gA g 0), .int x, .ref (gA g 16)] h (fun r h' => ∃ k, r = some (.int k) ∧ SameN h h' ∧ InvC G h' ∧ ((k = 0 ∧ Sane G ∧ ∃ u, u < Gn G ∧ x = nI u ∧ Reach G 0 u ∧ h' 16 0 = nI (LEN G u)) ∨ (k = 1 ∧ ¬ Sane G) ∨ (k = 2 ∧ Sane G ∧ ¬ ∃ u, u < Gn G ∧ x = nI u ∧ Reach G 0 u))) (fun _ _ => False) := by
  refine Ct_ofW E.1 E.2 (by decide) (Nat.le_of_ble_eq_true rfl) (fun M C hr hx => ?_)
  have C : Cx _ M g "GameGraphLaw" b_L_length 4 := C
  refine V_lv [(0, .ref (gA g 0)), (1, .int x), (2, .ref (gA g 16))] rfl ?_
  have hn := hG.2.1
  refine V_aload_n C d_L_length_0 rfl ?_
  refine V_iconst (v := 0) C d_L_length_1 (by decide) ?_
  refine V_aload_n C d_L_length_2 rfl ?_
  refine V_iload_n C d_L_length_3 rfl ?_
  refine V_callV C "GameGraph" (As := [.int x]) (st := [.int 0, .ref (gA g 16)]) (c_G_length E G h hG hI x) wc_G_length (fun _ _ => codeIs) wz_G wl_L_43 wi_G_length ws_G_length ⟨by decide, by decide⟩ rfl recvG ⟨by decide, by decide⟩ ⟨by decide, by decide⟩ (Nat.le_of_ble_eq_true rfl) d_L_length_4 (fun r h1 hp => ?_) (fun X h1 hp => ?_)
  · obtain ⟨hs, ⟨u, u1, u2, u3, rfl⟩, hI1, hS⟩ := hp
    refine V_i2l C d_L_length_7 ?_
    refine V_last C d_L_length_8 (fun h2 eh2 => ?_)
    refine V_goto C 18 d_L_length_9 (by decide) ?_
    refine V_iconst (v := 0) C d_L_length_18 (by decide) ?_
    exact V_iret C hr rfl d_L_length_19 ⟨_, rfl, SameN.put hS eh2, hI1.same hn (sameC_out eh2), Or.inl ⟨rfl, hs, u, u1, u2, u3, by rw [eh2, pu_self]⟩⟩
  · obtain ⟨hI1, hS, ⟨rfl, hns⟩ | ⟨rfl, hs, hno⟩⟩ := hp
    · refine VX_wide (c' := 2) (s' := 12) (by decide) (by decide) (VX_catch C hx 12 (fun S la a cell hpl hW hcell hst hX => find_hit (x := ⟨0, 9, 12, 38⟩) hpl C.2.2.2.1 hW (C.w wk_L_38) rfl (by decide) hcell hst hX (C.w wy_IS)) (fun ad => ?_))
      refine V_astore_n C [(0, .ref (gA g 0)), (1, .int x), (2, .ref (gA g 16)), (3, .ref ad)] d_L_length_12 (by decide) rfl rfl ?_
      refine V_iconst (v := 1) C d_L_length_13 (by decide) ?_
      exact V_iret C hr rfl d_L_length_14 ⟨_, rfl, hS.n, hI1, Or.inr (Or.inl ⟨rfl, hns⟩)⟩
    · refine VX_wide (c' := 2) (s' := 12) (by decide) (by decide) (VX_catch C hx 15 (fun S la a cell hpl hW hcell hst hX => find_pass (x := ⟨0, 9, 12, 38⟩) hpl C.2.2.2.1 hW (C.w wk_L_38) rfl (by decide) hcell hst hX (C.w wnc_2) (fun vm1 hW1 => find_hit (x := ⟨0, 9, 15, 19⟩) hpl C.2.2.2.1 hW1 (C.w wk_L_19) rfl (by decide) hcell hst hX (C.w wy_IO))) (fun ad => ?_))
      refine V_astore_n C [(0, .ref (gA g 0)), (1, .int x), (2, .ref (gA g 16)), (3, .ref ad)] d_L_length_15 (by decide) rfl rfl ?_
      refine V_iconst (v := 2) C d_L_length_16 (by decide) ?_
      exact V_iret C hr rfl d_L_length_17 ⟨_, rfl, hS.n, hI1, Or.inr (Or.inr ⟨rfl, hs, hno⟩)⟩
set_option maxHeartbeats 4000000 in
theorem c_L_best {l : Launch} {g : Gh} (E : gOk g ∧ l.stackTraces = false) (G : Gr) (h : Pic) (hG : Good G) (hI : InvC G h) (x : Int32) : Ct l g y_L_best k_L_best (RM 90 2 12) [.ref (gA g 0), .int x, .ref (gA g 16)] h (fun r h' => ∃ k, r = some (.int k) ∧ SameN h h' ∧ InvC G h' ∧ ((k = 0 ∧ Sane G ∧ ∃ u, u < Gn G ∧ x = nI u ∧ Reach G 0 u ∧ Best G u (h' 16 0)) ∨ (k = 1 ∧ ¬ Sane G) ∨ (k = 2 ∧ Sane G ∧ ¬ ∃ u, u < Gn G ∧ x = nI u ∧ Reach G 0 u))) (fun _ _ => False) := by
  refine Ct_ofW E.1 E.2 (by decide) (Nat.le_of_ble_eq_true rfl) (fun M C hr hx => ?_)
  have C : Cx _ M g "GameGraphLaw" b_L_best 4 := C
  refine V_lv [(0, .ref (gA g 0)), (1, .int x), (2, .ref (gA g 16))] rfl ?_
  have hn := hG.2.1
  refine V_aload_n C d_L_best_0 rfl ?_
  refine V_iconst (v := 0) C d_L_best_1 (by decide) ?_
  refine V_aload_n C d_L_best_2 rfl ?_
  refine V_iload_n C d_L_best_3 rfl ?_
  refine V_callV C "GameGraph" (As := [.int x]) (st := [.int 0, .ref (gA g 16)]) (c_G_best E G h hG hI x) wc_G_best (fun _ _ => codeIs) wz_G wl_L_40 wi_G_best ws_G_best ⟨by decide, by decide⟩ rfl recvG ⟨by decide, by decide⟩ ⟨by decide, by decide⟩ (Nat.le_of_ble_eq_true rfl) d_L_best_4 (fun r h1 hp => ?_) (fun X h1 hp => ?_)
  · obtain ⟨hs, ⟨u, v, u1, u2, u3, hb, rfl⟩, hI1, hS⟩ := hp
    refine V_i2l C d_L_best_7 ?_
    refine V_last C d_L_best_8 (fun h2 eh2 => ?_)
    refine V_goto C 18 d_L_best_9 (by decide) ?_
    refine V_iconst (v := 0) C d_L_best_18 (by decide) ?_
    exact V_iret C hr rfl d_L_best_19 ⟨_, rfl, SameN.put hS eh2, hI1.same hn (sameC_out eh2), Or.inl ⟨rfl, hs, u, u1, u2, u3, by rw [eh2, pu_self]; exact hb⟩⟩
  · obtain ⟨hI1, hS, ⟨rfl, hns⟩ | ⟨rfl, hs, hno⟩⟩ := hp
    · refine VX_wide (c' := 2) (s' := 12) (by decide) (by decide) (VX_catch C hx 12 (fun S la a cell hpl hW hcell hst hX => find_hit (x := ⟨0, 9, 12, 38⟩) hpl C.2.2.2.1 hW (C.w wk_L_38) rfl (by decide) hcell hst hX (C.w wy_IS)) (fun ad => ?_))
      refine V_astore_n C [(0, .ref (gA g 0)), (1, .int x), (2, .ref (gA g 16)), (3, .ref ad)] d_L_best_12 (by decide) rfl rfl ?_
      refine V_iconst (v := 1) C d_L_best_13 (by decide) ?_
      exact V_iret C hr rfl d_L_best_14 ⟨_, rfl, hS.n, hI1, Or.inr (Or.inl ⟨rfl, hns⟩)⟩
    · refine VX_wide (c' := 2) (s' := 12) (by decide) (by decide) (VX_catch C hx 15 (fun S la a cell hpl hW hcell hst hX => find_pass (x := ⟨0, 9, 12, 38⟩) hpl C.2.2.2.1 hW (C.w wk_L_38) rfl (by decide) hcell hst hX (C.w wnc_2) (fun vm1 hW1 => find_hit (x := ⟨0, 9, 15, 19⟩) hpl C.2.2.2.1 hW1 (C.w wk_L_19) rfl (by decide) hcell hst hX (C.w wy_IO))) (fun ad => ?_))
      refine V_astore_n C [(0, .ref (gA g 0)), (1, .int x), (2, .ref (gA g 16)), (3, .ref ad)] d_L_best_15 (by decide) rfl rfl ?_
      refine V_iconst (v := 2) C d_L_best_16 (by decide) ?_
      exact V_iret C hr rfl d_L_best_17 ⟨_, rfl, hS.n, hI1, Or.inr (Or.inr ⟨rfl, hs, hno⟩)⟩
end
section
-- ===== the time of making: worlds that grow =====
def Cy (args : Array Value) (M : MT) (g : Gh) (own : String) (cc : ByteArray) (nL : Nat) : Prop :=
  (mP M).tables.exec = Jvm.exec ∧ (mC M).code = cc ∧ (mC M).maxLocals = nL ∧ (mS M).vm.findClass own = some (mM M).cls ∧ Kv g (mS M).vm ∧ (mT M).locks = false
/-- a contract of a method that returns nothing, over any heap -/
def Cc (l : Launch) (g : Gh) (y : MethodName) (cw : Cond) (rm : Room) (As : List Value) (n : Nat) (A : Nat → Prop) (P : Heap → Prop) (Post : Heap → Heap → Prop) : Prop :=
  MetFree l y (headSpec [cw] rm) (fun a U => a = As.toArray ∧ P U.heap ∧ U.heap.size = n ∧ Kv g U.vm) (fun _ _ _ _ _ => True)
    (fun _ st o t => (o = .returned none ∧ Post st.heap t.heap ∧ va_F A st t) ∧ ∃ L, EndX st t L rm.cells rm.slots ∧ ∀ q ∈ L, A q.base)
section MK
variable {l : Launch} {R : Room} {args : Array Value} {M : MT} {g : Gh} {own : String} {cc : ByteArray} {nL : Nat} {Q : State → Prop} {cells slots : Nat} {pc : Nat} {st : List Value} {la : Array Slot} {H H0 : Heap} {locs : List Loc} {A A0 : Nat → Prop} {P : Heap → Prop} {Post : Heap → Heap → Prop} {rm : Room} {y : MethodName} {cw : Cond} {maxL n : Nat} {ws : va_W}
theorem Cy.ts (C : Cy args M g own cc nL) : ∀ w ∈ TA, w.before args (mS M) = true := fun w hw => C.2.2.2.2.1.1 w hw args (mS M) rfl
theorem Cy.w (C : Cy args M g own cc nL) {w : Cond} (hw : w ∈ TA) : w.before args (mS M) = true := C.ts w hw
theorem Cy.K (C : Cy args M g own cc nL) : va_K g.1 classes (gt g) (mS M) := C.2.2.2.2.1.2.2 (mS M) rfl
theorem arr_id {D : va_G} {cl : List vw_C} {tys : List (ClassId × FieldType)} {s : State} (h : va_K D cl tys s) {i j : Nat} {a b : ClassId} {ty : FieldType} (h1 : tys[i]? = some (a, ty)) (h2 : tys[j]? = some (b, ty)) : a = b := by
  have e1 := (h.2 i _ h1).2
  have e2 := (h.2 j _ h2).2
  have key : ∀ {c : ClassId}, va_RA s c ty → s.vm.findClass ("[" ++ ty.toString) = some c := by
    intro c hc
    cases ty with
    | object C => obtain ⟨_, _, _, _, _, h4⟩ := hc; exact h4
    | _ => exact hc
  exact Option.some.inj ((key e1).symm.trans (key e2))
theorem callC (C : Cy args M g own cc nL) {As : List Value} (hM : Cc l g y cw rm As n A P Post) (hcw : cw ∈ TA) (hci : ∀ (a : Array Value) (s : State), cw.before a s = true → ∃ mk meth c, CodeIs s y maxL mk meth c) (hini : Cond.initialized y.cls ∈ TA)
    (hR : rm.frames + 1 ≤ R.frames ∧ 8 + (maxL + 11) + rm.locals ≤ R.locals) (hRc : cells + rm.cells ≤ R.cells ∧ slots + rm.slots ≤ R.slots)
    (hla : la.size = nL) (hst : (st.map fun v => v.category).sum ≤ 8) {ig : Instr} (hdg : decode cc pc = .ok (ig, 3)) (hP : P H) (hn : H.size = n) (hS : va_S A0 H0 H locs) (hA : ∀ q, A q → A0 q)
    (kr : ∀ (H1 : Heap) (locs1 : List Loc), Post H H1 → H.size ≤ H1.size → (∀ q : Nat, q < H.size → ¬ A q → H1[q]? = H[q]?) → va_S A0 H0 H1 locs1 → W (mP M) l (mE M) R (mS M) (mM M) args (mB M) (mT M) (mC M) H1 locs1 (cells + rm.cells) (slots + rm.slots) Q (F0 (mM M) (pc + 3) la st))
    {T : State} (hT : T.heap = H) (X : Stand (mP M) l (mE M) R (mS M) (mM M) args (mB M) (mT M) (mC M) T locs cells slots) {mk : MethodId} (hmk : (mS M).methodNamed? y = some mk) :
    ∃ t, Steps (mP M).tables (mE M) (mB M) (doInvoke (mE M) (T.setTop (F0 (mM M) pc la st)) [] mk As.toArray).1 t ∧ Q t := by
  have hK : Kv g T.vm := Kv.warm X.warmed C.2.2.2.2.1
  have hcwT : cw.before As.toArray T = true := hK.1 cw hcw As.toArray T rfl
  obtain ⟨mk', methY, cY, hY⟩ := hci _ _ hcwT
  have e0 : mk' = mk := Option.some.inj (hY.1.symm.trans (X.named hmk))
  subst e0
  obtain ⟨o, t, T', L, X', e1, e2, hL, ⟨⟨ho, hp, hF1, hF2⟩, -⟩, hr, hx⟩ := backX (f := F0 (mM M) pc la st) (free := A) X rfl (hla.trans C.2.2.1.symm) (by rw [C.2.1]; exact hdg) (by simpa [JFrame.monitorRoom] using hst) hY hM
    (hK.1 _ hini As.toArray T rfl) (atoms_intro (ws := [cw]) (fun w hw => by rw [List.mem_singleton.mp hw]; exact hcwT)) hR.1 hR.2 hRc.1 hRc.2
    ⟨rfl, by show P T.heap; rw [hT]; exact hP, by show T.heap.size = n; rw [hT]; exact hn, hK⟩ (fun _ _ _ hq => hq.2)
  have hp : Post H t.heap := by rw [← hT]; exact hp
  have hF1 : H.size ≤ t.heap.size := by rw [← hT]; exact hF1
  have hF2 : ∀ q : Nat, q < H.size → ¬ A q → t.heap[q]? = H[q]? := by rw [← hT]; exact hF2
  rw [← e1] at hp hF1 hF2
  obtain ⟨t2, a1, b1⟩ := kr T'.heap (locs ++ L) hp hF1 hF2 ⟨Nat.le_trans hS.1 hF1, fun q h1 h2 => by rw [hF2 q (Nat.lt_of_lt_of_le h1 hS.1) (fun z => h2 (hA q z))]; exact hS.2.1 q h1 h2, fun q hq => by
      rcases List.mem_append.mp hq with h | h
      · exact hS.2.2 q h
      · exact hA _ (hL q h)⟩ T' rfl X'
  exact ⟨t2, (hr none ho).trans a1, b1⟩
theorem M_callI (C : Cy args M g own cc nL) {b : Nat} {As : List Value} {bytes : ByteArray} {idx : Nat} (hM : Cc l g y (.code y bytes maxL none) rm (.ref b :: As) n A P Post) (hcw : Cond.code y bytes maxL none ∈ TA)
    (hini : Cond.initialized y.cls ∈ TA) (hlk : Cond.methodLink own idx y ∈ TA) (hin : Cond.instanceMethod y ∈ TA) (hy1 : y.name = "<init>") (hy : y.cls ≠ "java/lang/invoke/MethodHandle" ∧ y.cls ≠ "java/lang/invoke/VarHandle")
    (hlen : (parseMethodDescriptor y.desc).map (fun d => d.parameters.length) = some As.length)
    (hR : rm.frames + 1 ≤ R.frames ∧ 8 + (maxL + 11) + rm.locals ≤ R.locals) (hRc : cells + rm.cells ≤ R.cells ∧ slots + rm.slots ≤ R.slots) (hst : (st.map fun v => v.category).sum ≤ 8) (d : decode cc pc = .ok (.invokespecial idx, 3))
    (hla : la.size = nL) (hP : P H) (hn : H.size = n) (hS : va_S A0 H0 H locs) (hA : ∀ q, A q → A0 q)
    (kr : ∀ (H1 : Heap) (locs1 : List Loc), Post H H1 → H.size ≤ H1.size → (∀ q : Nat, q < H.size → ¬ A q → H1[q]? = H[q]?) → va_S A0 H0 H1 locs1 → W (mP M) l (mE M) R (mS M) (mM M) args (mB M) (mT M) (mC M) H1 locs1 (cells + rm.cells) (slots + rm.slots) Q (F0 (mM M) (pc + 3) la st)) :
    W (mP M) l (mE M) R (mS M) (mM M) args (mB M) (mT M) (mC M) H locs cells slots Q (F0 (mM M) pc la (As.reverse ++ .ref b :: st)) := by
  intro T hT X
  have hpl : (mE M).platform.magicAccessors = ({} : Platform).magicAccessors := by rw [X.admits.platform]
  obtain ⟨mk, methM, cM, kP, vm₁, hnamed, hmethM, hcodeM, -, hlocalsM, -, hkP, -, hW₁, hstep₁⟩ := Steps.initColdArgs (e := mE M) X.here C.1 X.warmed hpl C.2.2.2.1 hy1 hy (C.w hlk) (C.w hin) (C.w hcw) (f := F0 (mM M) pc la (As.reverse ++ .ref b :: st)) rfl (argsL := As) (rest := st) (fun sig h => by rw [h] at hlen; exact (Option.some.inj hlen).symm) rfl (by rw [C.2.1]; exact d)
  obtain ⟨t, a1, b1⟩ := callC C hM hcw (fun _ _ => codeIs) hini hR hRc hla hst d hP hn hS hA kr (T := T.setVm vm₁) hT (X.noted hW₁) hnamed
  exact ⟨t, hstep₁ _ fun acts => by rw [doInvoke_state]; exact a1, b1⟩
theorem M_callIN (C : Cy args M g own cc nL) {b : Nat} {As : List Value} {bytes : ByteArray} {idx : Nat} {host : String} (hM : Cc l g y (.code y bytes maxL none) rm (.ref b :: As) n A P Post) (hcw : Cond.code y bytes maxL none ∈ TA)
    (hini : Cond.initialized y.cls ∈ TA) (hlk : Cond.methodLinkNest own idx y host ∈ TA) (hin : Cond.instanceMethod y ∈ TA) (hy1 : y.name = "<init>") (hy : y.cls ≠ "java/lang/invoke/MethodHandle" ∧ y.cls ≠ "java/lang/invoke/VarHandle")
    (hlen : (parseMethodDescriptor y.desc).map (fun d => d.parameters.length) = some As.length)
    (hR : rm.frames + 1 ≤ R.frames ∧ 8 + (maxL + 11) + rm.locals ≤ R.locals) (hRc : cells + rm.cells ≤ R.cells ∧ slots + rm.slots ≤ R.slots) (hst : (st.map fun v => v.category).sum ≤ 8) (d : decode cc pc = .ok (.invokespecial idx, 3))
    (hla : la.size = nL) (hP : P H) (hn : H.size = n) (hS : va_S A0 H0 H locs) (hA : ∀ q, A q → A0 q)
    (kr : ∀ (H1 : Heap) (locs1 : List Loc), Post H H1 → H.size ≤ H1.size → (∀ q : Nat, q < H.size → ¬ A q → H1[q]? = H[q]?) → va_S A0 H0 H1 locs1 → W (mP M) l (mE M) R (mS M) (mM M) args (mB M) (mT M) (mC M) H1 locs1 (cells + rm.cells) (slots + rm.slots) Q (F0 (mM M) (pc + 3) la st)) :
    W (mP M) l (mE M) R (mS M) (mM M) args (mB M) (mT M) (mC M) H locs cells slots Q (F0 (mM M) pc la (As.reverse ++ .ref b :: st)) := by
  intro T hT X
  have hpl : (mE M).platform.magicAccessors = ({} : Platform).magicAccessors := by rw [X.admits.platform]
  obtain ⟨mk, methM, cM, kP, vm₁, hnamed, hmethM, hcodeM, -, hlocalsM, -, hkP, -, hW₁, hstep₁⟩ := Steps.initColdArgsNest (e := mE M) X.here C.1 X.warmed hpl C.2.2.2.1 hy1 hy (C.w hlk) (C.w hin) (C.w hcw) (f := F0 (mM M) pc la (As.reverse ++ .ref b :: st)) rfl (argsL := As) (rest := st) (fun sig h => by rw [h] at hlen; exact (Option.some.inj hlen).symm) rfl (by rw [C.2.1]; exact d)
  obtain ⟨t, a1, b1⟩ := callC C hM hcw (fun _ _ => codeIs) hini hR hRc hla hst d hP hn hS hA kr (T := T.setVm vm₁) hT (X.noted hW₁) hnamed
  exact ⟨t, hstep₁ _ fun acts => by rw [doInvoke_state]; exact a1, b1⟩
theorem M_callV (C : Cy args M g own cc nL) {b : Nat} {As : List Value} (Cls : String) {idx : Nat} (hM : Cc l g y cw rm (.ref b :: As) n A P Post) (hcw : cw ∈ TA) (hci : ∀ (a : Array Value) (s : State), cw.before a s = true → ∃ mk meth c, CodeIs s y maxL mk meth c)
    (hini : Cond.initialized y.cls ∈ TA) (hlk : Cond.methodLink own idx y ∈ TA) (hin : Cond.instanceMethod y ∈ TA) (hse : Cond.selects Cls y y ∈ TA) (hy : y.cls ≠ "java/lang/invoke/MethodHandle" ∧ y.cls ≠ "java/lang/invoke/VarHandle")
    (hlen : (parseMethodDescriptor y.desc).map (fun d => d.parameters.length) = some As.length) (hwP : va_P g.1 classes ws H) {q0 ci : Nat} {fs : List Value} {q : vw_C} (he : ws[q0]? = some (b, .inr (ci, fs))) (hcl : classes[ci]? = some q) (hq1 : q.1 = Cls)
    (hR : rm.frames + 1 ≤ R.frames ∧ 8 + (maxL + 11) + rm.locals ≤ R.locals) (hRc : cells + rm.cells ≤ R.cells ∧ slots + rm.slots ≤ R.slots) (hst : (st.map fun v => v.category).sum ≤ 8) (d : decode cc pc = .ok (.invokevirtual idx, 3))
    (hla : la.size = nL) (hP : P H) (hn : H.size = n) (hS : va_S A0 H0 H locs) (hA : ∀ q, A q → A0 q)
    (kr : ∀ (H1 : Heap) (locs1 : List Loc), Post H H1 → H.size ≤ H1.size → (∀ q : Nat, q < H.size → ¬ A q → H1[q]? = H[q]?) → va_S A0 H0 H1 locs1 → W (mP M) l (mE M) R (mS M) (mM M) args (mB M) (mT M) (mC M) H1 locs1 (cells + rm.cells) (slots + rm.slots) Q (F0 (mM M) (pc + 3) la st)) :
    W (mP M) l (mE M) R (mS M) (mM M) args (mB M) (mT M) (mC M) H locs cells slots Q (F0 (mM M) pc la (As.reverse ++ .ref b :: st)) := by
  intro T hT X
  subst hq1
  obtain ⟨cellB, hcB, hoB, hclB⟩ := va_recv C.K hwP hcl he
  obtain ⟨mk, methM, hnamed, hmethM, hstM, habM⟩ := Cond.instanceMethod_spec (C.w hin)
  obtain ⟨mk', methM', cM, hn', hm', -, -, hsig⟩ := hci _ _ (C.w hcw)
  cases hnamed.symm.trans hn'
  cases hmethM.symm.trans hm'
  obtain ⟨c2, r2, m2, q1, q2, q3, q4, kP, hkP, hkPi⟩ := Cond.selects_spec (C.w hse)
  cases hclB.symm.trans q1
  cases (State.methodFound?_of_named hnamed hy).symm.trans q2
  cases hnamed.symm.trans q3
  have hselP : selectMethod (mE M).platform (mS M).vm cellB.cls mk = .method mk := by rw [Launch.admits_selectMethod X.admits]; exact q4
  have hln : As.length = methM.sig.parameters.length := by
    rw [hsig] at hlen
    exact (Option.some.inj hlen).symm
  obtain ⟨vm₁, X₁, hstep₁⟩ := X.invokevirtual C.1 C.2.2.2.1 (C.w hlk) hnamed hmethM hstM hkP hkPi hy (a := b) (cell := cellB) (by rw [hT]; exact hcB)
    (fun z h => by rw [h] at hoB; cases hoB) hselP hmethM habM hkP hkPi (g := F0 (mM M) pc la (As.reverse ++ .ref b :: st)) rfl (argsL := As) (rest := st) hln rfl (by rw [C.2.1]; exact d)
  obtain ⟨t, a1, b1⟩ := callC C hM hcw hci hini hR hRc hla hst d hP hn hS hA kr (T := T.setVm vm₁) hT X₁ hnamed
  exact ⟨t, hstep₁ _ fun acts => by rw [doInvoke_state]; exact a1, b1⟩
theorem M_vret (C : Cy args M g own cc nL) (hr : (mT M).sig.returnType = none) (d : decode cc pc = .ok (.return_, 1)) (hS : va_S A (mS M).heap H locs) (hp : Post (mS M).heap H) :
    W (mP M) l (mE M) R (mS M) (mM M) args (mB M) (mT M) (mC M) H locs cells slots (MQX (mB M) (fun _ st o t => o = .returned none ∧ Post st.heap t.heap ∧ va_F A st t) args (mS M) cells slots A) (F0 (mM M) pc la []) :=
  W_mono MQ_X (W.vret (Qc := fun _ st o t => o = .returned none ∧ Post st.heap t.heap ∧ va_F A st t) C.1 C.2.1 hr (fun t ht _ => ⟨rfl, by rw [ht]; exact hp, hS.F ht⟩) hS.2.2 d C.2.2.2.2.2)
theorem Cc_of {As : List Value} (hy : plainName y.cls = true) (hnl : (lg_sl As).length ≤ nL)
    (body : ∀ M : MT, Cy As.toArray M g y.cls cc nL → (mT M).sig.returnType = none → (mT M).name = y.name → (mS M).heap.size = n → P (mS M).heap → ∀ la : Array Slot, lv_has la nL (lv_args 0 As) →
      W (mP M) l (mE M) rm (mS M) (mM M) As.toArray (mB M) (mT M) (mC M) (mS M).heap [] 0 0 (MQX (mB M) (fun _ st o t => o = .returned none ∧ Post st.heap t.heap ∧ va_F A st t) As.toArray (mS M) rm.cells rm.slots A) (F0 (mM M) 0 la [])) : Cc l g y (.code y cc nL none) rm As n A P Post := by
  refine MetFree.of_bodyS (code := cc) (maxLocals := nL) (ret := none) hy ?_ ?_
  · intro args s m hh hnm
    obtain ⟨meth, c, h1, h2, h3, h4, h5, h6, -, -⟩ := Cond.code_spec hnm (atoms_spec (ws := [.code y cc nL none]) hh _ List.mem_cons_self)
    exact ⟨meth, c, h1, h2, h3, h4, h5, h6⟩
  · intro p e s m args below meth c s₁ B hml hP _
    obtain ⟨rfl, hW, hsz, hK⟩ := hP
    have hh0 : s₁.heap = s.heap := by rw [B.state]; rfl
    have C : Cy As.toArray (p, e, s, m, below, meth, c) g y.cls cc nL := ⟨B.exec, B.bytes, hml, findClass_of_methodNamed B.named, hK, B.notSynchronized⟩
    have key := body (p, e, s, m, below, meth, c) C B.returns (name_of_methodNamed B.named B.method).1 hsz hW _ (lv_entry As hnl)
    rw [← lg_entry_eq] at key
    obtain ⟨t, a1, o, b1, b2, b3⟩ := key s₁ hh0 (Stand.of_body B)
    exact ⟨t, o, a1, b1, b2, ⟨b3.1, b3.2⟩⟩
end MK
end
section
-- ===== the constructors =====
theorem wo_S : Cond.methodLink "GameGraph$State" 3 Lib.objectInit ∈ TA := by decide +kernel
theorem wo_G : Cond.methodLink "GameGraph" 1 Lib.objectInit ∈ TA := by decide +kernel
theorem wo_M : Cond.methodLink "GameGraphModel" 1 Lib.objectInit ∈ TA := by decide +kernel
theorem wo_i : Cond.instanceMethod Lib.objectInit ∈ TA := by decide +kernel
theorem wo_c : Cond.code Lib.objectInit ⟨#[0xb1]⟩ 1 none ∈ TA := by decide +kernel
theorem wr_I : Cond.arrayClass .int ∈ TA := by decide +kernel
theorem wr_Z : Cond.arrayClass .boolean ∈ TA := by decide +kernel
theorem wr_J : Cond.arrayClass .long ∈ TA := by decide +kernel
theorem wr_Q : Cond.arrayOver (.object "GameGraph$State") ∈ TA := by decide +kernel
theorem wn_G : Cond.instantiable "GameGraph" 8 ∈ TA := by decide +kernel
theorem wn_S : Cond.instantiable "GameGraph$State" 11 ∈ TA := by decide +kernel
theorem wn_M : Cond.instantiable "GameGraphModel" 13 ∈ TA := by decide +kernel
def zS : List Value := [.int 0, .int 0, .int 0, .int 0, .null, .int 0, .int 0, .int 0, .int 0, .int 0, .int 0]
def zN (q : Nat) : List Value := [.int 0, .int 0, .int 0, .int 0, .ref q, .int 0, .int 0, .int 0, .int 0, .int 0, .int 0]
def zE (q : Nat) : List Value := [.int 1, .int 50, .int 50, .int 0, .ref q, .int 0, .int 0, .int 0, .int 0, .int 0, .int 0]
def zG : List Value := [.null, .int 0, .int 0, .int 0, .int 0, .int 0, .null, .null]
def zM : List Value := [.int 0, .null, .null, .null, .null, .null, .null, .null, .null, .null, .null, .null, .int 0]
theorem P1 {D : va_G} {cl : List vw_C} {q : Nat × va_E} {H : Heap} (h : va_at D cl q H) : va_P D cl [q] H := fun k x hx => by
  have hz : k < 1 := (List.getElem?_eq_some_iff.mp hx).1
  rw [show k = 0 by omega] at hx
  cases hx
  exact h
theorem Done {A : Nat → Prop} {q : Nat × va_E} (h : A q.1) : va_D A [q] := by
  have key : ∀ (k : Nat) (x : Nat × va_E), [q][k]? = some x → k = 0 ∧ x = q := fun k x hx => by
    have hz : k < 1 := (List.getElem?_eq_some_iff.mp hx).1
    have e : k = 0 := by omega
    rw [e] at hx
    cases hx
    exact ⟨e, rfl⟩
  exact ⟨fun i j x y hi hj _ => by rw [(key i x hi).1, (key j y hj).1], fun k x hx => by rw [(key k x hx).2]; exact h⟩
/-- behind a constructor's call: the rest of the world, and what the callee made of q -/
theorem joinQ {D : va_G} {cl : List vw_C} {A : Nat → Prop} {w0 w1 : va_W} {q : Nat} {e : va_E} {H H1 : Heap} (hP : va_P D cl (w0 ++ [(q, e)]) H) (hD : va_D A (w0 ++ [(q, e)])) (hk : ∀ x : Nat, x < H.size → ¬ (q = x ∨ H.size ≤ x) → H1[x]? = H[x]?)
    (hP1 : va_P D cl w1 H1) (hD1 : va_D (fun x => q = x ∨ H.size ≤ x) w1) (hA : ∀ x, H.size ≤ x → A x) : va_P D cl (w0 ++ w1) H1 ∧ va_D A (w0 ++ w1) := by
  have hq : (w0 ++ [(q, e)])[w0.length]? = some (q, e) := by rw [List.getElem?_append_right (Nat.le_refl _), Nat.sub_self]; rfl
  have up : ∀ (k : Nat) (x : Nat × va_E), w0[k]? = some x → (w0 ++ [(q, e)])[k]? = some x := fun k x hx => by rw [List.getElem?_append_left (List.getElem?_eq_some_iff.mp hx).1]; exact hx
  have apart : ∀ (k : Nat) (x : Nat × va_E), w0[k]? = some x → x.1 < H.size ∧ ¬ (q = x.1 ∨ H.size ≤ x.1) := fun k x hx => by
    have hl := (hP k x (up k x hx)).lt
    refine ⟨hl, fun z => ?_⟩
    rcases z with z | z
    · have := hD.1 k w0.length x (q, e) (up k x hx) hq z.symm
      have := (List.getElem?_eq_some_iff.mp hx).1
      omega
    · omega
  refine ⟨va_P.app (fun k x hx => (hP k x (up k x hx)).kept (hk x.1 (apart k x hx).1 (apart k x hx).2)) hP1, va_D.app ⟨fun i j x y hi hj => hD.1 i j x y (up i x hi) (up j y hj), fun k x hx => hD.2 k x (up k x hx)⟩ (hD1.weaken (fun k x _ h => ?_)) (fun i j x y hx hy hxy => (apart i x hx).2 (by rw [hxy]; exact hD1.2 j y hy))⟩
  rcases h with h | h
  · rw [← h]; exact hD.2 _ _ hq
  · exact hA _ h
/-- behind a call that changes one cell of the world -/
theorem setQ {D : va_G} {cl : List vw_C} {A : Nat → Prop} {ws : va_W} {p a : Nat} {e0 e : va_E} {H H1 : Heap} (hP : va_P D cl ws H) (hD : va_D A ws) (hp : ws[p]? = some (a, e0)) (hk : ∀ x : Nat, x < H.size → ¬ a = x → H1[x]? = H[x]?) (he : va_at D cl (a, e) H1) : va_P D cl (ws.set p (a, e)) H1 := by
  have hl := (List.getElem?_eq_some_iff.mp hp).1
  intro k q hq
  by_cases hkp : k = p
  · subst hkp
    rw [List.getElem?_set_self hl] at hq
    cases hq
    exact he
  · rw [List.getElem?_set_ne (Ne.symm hkp)] at hq
    exact (hP k q hq).kept (hk q.1 (hP k q hq).lt (fun z => hkp (hD.1 k p q (a, e0) hq hp z.symm)))
section MK2
variable {l : Launch} {R : Room} {args : Array Value} {M : MT} {g : Gh} {own : String} {cc : ByteArray} {nL : Nat} {Q : State → Prop} {cells slots : Nat} {pc : Nat} {st : List Value} {la : Array Slot} {H H0 : Heap} {locs : List Loc} {A : Nat → Prop} {ws : va_W}
theorem M_newa (C : Cy args M g own cc nL) {atype : ArrayType} {ty : FieldType} (harr : Cond.arrayClass (newarray.typeOf atype) ∈ TA) (hty : newarray.typeOf atype = ty) {t0 : Nat} {cA : ClassId} (ht : (gt g)[t0]? = some (cA, ty)) (hP : va_P g.1 classes ws H) (hD : va_D A ws) (hS : va_S A H0 H locs) (hA : ∀ q, H0.size ≤ q → A q)
    {n : Int32} {N : Nat} {a0 : vp_A} (ha : ∀ c : ClassId, vp_cell c a0 = arrV c N (fun _ => defaultValue ty)) (hn : ¬ n < 0) (hN : n.toNatClampNeg = N) (hbytes : N * componentBytes ty ≤ 536870912) (hcells : cells + 1 ≤ R.cells) (hslots : slots + N ≤ R.slots) (d : decode cc pc = .ok (.newarray atype, 2))
    (kk : ∀ (q : Nat) (H1 : Heap), va_P g.1 classes (ws ++ [(q, .inl (cA, a0))]) H1 → va_D A (ws ++ [(q, .inl (cA, a0))]) → va_S A H0 H1 locs → W (mP M) l (mE M) R (mS M) (mM M) args (mB M) (mT M) (mC M) H1 locs (cells + 1) (slots + N) Q (F0 (mM M) (pc + 2) la (.ref q :: st))) :
    W (mP M) l (mE M) R (mS M) (mM M) args (mB M) (mT M) (mC M) H locs cells slots Q (F0 (mM M) pc la (.int n :: st)) := by
  refine va_newa C.1 C.2.1 (C.w harr) hty C.K hP hD hS hA ha hn hN hbytes hcells hslots d (fun q c H1 hK1 hP1 hD1 hS1 => ?_)
  have e : cA = c := arr_id hK1 (i := t0) (j := (gt g).length) (by rw [List.getElem?_append_left (List.getElem?_eq_some_iff.mp ht).1]; exact ht) (by rw [List.getElem?_append_right (Nat.le_refl _), Nat.sub_self]; rfl)
  subst e
  exact kk q H1 hP1 hD1 hS1
end MK2
/-- what State() leaves -/
def PoS (g : Gh) (b n : Nat) (_ H1 : Heap) : Prop := ∃ q, va_P g.1 classes [(b, .inr (1, zN q)), (q, .inl (gI g, 12, .inl (fun _ => 0)))] H1 ∧ va_D (fun x => b = x ∨ n ≤ x) [(b, .inr (1, zN q)), (q, .inl (gI g, 12, .inl (fun _ => 0)))]
set_option maxHeartbeats 4000000 in
theorem i_S_init (l : Launch) (g : Gh) (b n : Nat) : Cc l g y_S_init k_S_init (RM 2 1 12) [.ref b] n (fun x => b = x ∨ n ≤ x) (fun H => va_at g.1 classes (b, .inr (1, zS)) H) (PoS g b n) := by
  refine Cc_of (by decide) (Nat.le_of_ble_eq_true rfl) (fun M C hr hnm hsz hP0 la hl => ?_)
  have C : Cy _ M g "GameGraph$State" b_S_init 1 := C
  have hl : lv_has la 1 [(0, .ref b)] := hl
  have hP : va_P g.1 classes [(b, .inr (1, zS))] (mS M).heap := P1 hP0
  generalize hAe : (fun x => b = x ∨ n ≤ x) = A
  have hA : ∀ q : Nat, (mS M).heap.size ≤ q → A q := fun q h => by rw [← hAe]; exact Or.inr (by omega)
  have hD : va_D A [(b, .inr (1, zS))] := Done (by rw [← hAe]; exact Or.inl rfl)
  have hS : va_S A (mS M).heap (mS M).heap [] := va_S.rf
  refine lv_aload_n C.1 C.2.1 d_S_init_0 rfl (lv_at hl 0 rfl) ?_
  refine W.objInit C.1 C.2.1 C.2.2.2.1 (C.w wo_S) (C.w wo_i) (C.w wo_c) rfl (by rw [C.2.2.1]; exact hl.1) rfl d_S_init_1 (Nat.le_of_ble_eq_true rfl) (Nat.le_of_ble_eq_true rfl) ?_
  refine W.eq (g2 := F0 (mM M) 4 la []) rfl ?_
  refine lv_aload_n C.1 C.2.1 d_S_init_4 rfl (lv_at hl 0 rfl) ?_
  refine lv_bipush (v := 12) C.1 C.2.1 d_S_init_5 (by decide) ?_
  refine M_newa (atype := .int) (t0 := 0) (a0 := (12, .inl (fun _ => 0))) C wr_I rfl rfl hP hD hS hA (fun _ => rfl) (by decide) rfl (by decide) (by decide) (by decide) d_S_init_7 (fun q H hP hD hS => ?_)
  refine va_putF (ci := 1) (v := .ref q) (ty := .array .int) (C := R_S) (T := F_S) (N := 11) C.1 C.2.1 C.ts (fun w hw => TG_TA w (i_S w hw)) t_S t_S_ok n_S C.2.2.2.1 C.K hP hD hS 0 rfl rfl 4 (by decide) (C.w wf_S_9) (fun _ h9 => h9) rfl hnm rfl (by decide +kernel) rfl rfl (Nat.le_of_ble_eq_true rfl) d_S_init_9 (fun H locs hP hD hS => ?_)
  exact M_vret C hr d_S_init_12 hS ⟨q, hP, by rw [hAe]; exact hD⟩
end
section
-- ===== printed by gen/w16.py: State.end in the time of making, GameGraph(), GameGraphModel() =====
def PoE (g : Gh) (b q : Nat) (_ H1 : Heap) : Prop := va_at g.1 classes (b, .inr (1, zE q)) H1
set_option maxHeartbeats 4000000 in
theorem i_S_end (l : Launch) (g : Gh) (b q n : Nat) : Cc l g y_S_end k_S_end (RM 1 0 0) [.ref b, .int 50, .int 50] n (fun x => b = x) (fun H => va_at g.1 classes (b, .inr (1, zN q)) H) (PoE g b q) := by
  refine Cc_of (by decide) (Nat.le_of_ble_eq_true rfl) (fun M C hr hnm hsz hP0 la hl => ?_)
  have C : Cy _ M g "GameGraph$State" b_S_end 3 := C
  have hl : lv_has la 3 [(0, .ref b), (1, .int 50), (2, .int 50)] := hl
  have hP : va_P g.1 classes [(b, .inr (1, zN q))] (mS M).heap := P1 hP0
  generalize hAe : (fun x => b = x) = A
  have hD : va_D A [(b, .inr (1, zN q))] := Done (by rw [← hAe])
  have hS : va_S A (mS M).heap (mS M).heap [] := va_S.rf
  refine lv_aload_n C.1 C.2.1 d_S_end_0 rfl (lv_at hl 0 rfl) ?_
  refine lv_iconst (v := 1) C.1 C.2.1 d_S_end_1 (by decide) ?_
  refine va_put (ci := 1) (v := .int 1) (ty := .boolean) (C := R_S) (T := F_S) (N := 11) C.1 C.2.1 C.ts (fun w hw => TG_TA w (i_S w hw)) t_S t_S_ok n_S C.2.2.2.1 C.K hP hD hS 0 rfl rfl 0 (by decide) (C.w wf_S_15) (fun _ h9 => h9) rfl (by decide +kernel) rfl rfl (Nat.le_of_ble_eq_true rfl) d_S_end_2 (fun H locs hP hD hS => ?_)
  refine lv_aload_n C.1 C.2.1 d_S_end_5 rfl (lv_at hl 0 rfl) ?_
  refine lv_iload_n C.1 C.2.1 d_S_end_6 rfl (lv_at hl 1 rfl) ?_
  refine va_put (ci := 1) (v := .int 50) (ty := .int) (C := R_S) (T := F_S) (N := 11) C.1 C.2.1 C.ts (fun w hw => TG_TA w (i_S w hw)) t_S t_S_ok n_S C.2.2.2.1 C.K hP hD hS 0 rfl rfl 1 (by decide) (C.w wf_S_19) (fun _ h9 => h9) rfl (by decide +kernel) rfl rfl (Nat.le_of_ble_eq_true rfl) d_S_end_7 (fun H locs hP hD hS => ?_)
  refine lv_aload_n C.1 C.2.1 d_S_end_10 rfl (lv_at hl 0 rfl) ?_
  refine lv_iload_n C.1 C.2.1 d_S_end_11 rfl (lv_at hl 2 rfl) ?_
  refine va_put (ci := 1) (v := .int 50) (ty := .int) (C := R_S) (T := F_S) (N := 11) C.1 C.2.1 C.ts (fun w hw => TG_TA w (i_S w hw)) t_S t_S_ok n_S C.2.2.2.1 C.K hP hD hS 0 rfl rfl 2 (by decide) (C.w wf_S_23) (fun _ h9 => h9) rfl (by decide +kernel) rfl rfl (Nat.le_of_ble_eq_true rfl) d_S_end_12 (fun H locs hP hD hS => ?_)
  refine lv_aload_n C.1 C.2.1 d_S_end_15 rfl (lv_at hl 0 rfl) ?_
  refine lv_iconst (v := 0) C.1 C.2.1 d_S_end_16 (by decide) ?_
  refine va_put (ci := 1) (v := .int 0) (ty := .int) (C := R_S) (T := F_S) (N := 11) C.1 C.2.1 C.ts (fun w hw => TG_TA w (i_S w hw)) t_S t_S_ok n_S C.2.2.2.1 C.K hP hD hS 0 rfl rfl 3 (by decide) (C.w wf_S_26) (fun _ h9 => h9) rfl (by decide +kernel) rfl rfl (Nat.le_of_ble_eq_true rfl) d_S_end_17 (fun H locs hP hD hS => ?_)
  exact M_vret C hr d_S_end_20 hS (hP 0 _ rfl)
/-- the states made so far -/
def lst (g : Gh) (aS aN : Nat → Nat) : Nat → va_W
  | 0 => []
  | k + 1 => lst g aS aN k ++ [(aS k, .inr (1, zE (aN k))), (aN k, .inl (gI g, 12, .inl (fun _ => 0)))]
theorem lst_s {g : Gh} {aS aN : Nat → Nat} {k : Nat} : lst g aS aN (k + 1) = lst g aS aN k ++ [(aS k, .inr (1, zE (aN k))), (aN k, .inl (gI g, 12, .inl (fun _ => 0)))] := rfl
theorem lst_congr {g : Gh} {aS aN aS' aN' : Nat → Nat} {k : Nat} (h : ∀ i, i < k → aS i = aS' i ∧ aN i = aN' i) : lst g aS aN k = lst g aS' aN' k := by
  induction k with
  | zero => rfl
  | succ k ih => simp only [lst, ih (fun i hi => h i (by omega)), (h k (by omega)).1, (h k (by omega)).2]
theorem lst_len {g : Gh} {aS aN : Nat → Nat} {k : Nat} : (lst g aS aN k).length = 2 * k := by
  induction k with
  | zero => rfl
  | succ k ih => simp only [lst, List.length_append, ih, List.length_cons, List.length_nil]; omega
theorem lst_get {g : Gh} {aS aN : Nat → Nat} {k i : Nat} (h : i < k) : (lst g aS aN k)[2 * i]? = some (aS i, .inr (1, zE (aN i))) ∧ (lst g aS aN k)[2 * i + 1]? = some (aN i, .inl (gI g, 12, .inl (fun _ => 0))) := by
  induction k with
  | zero => omega
  | succ k ih =>
    have hL : (lst g aS aN k).length = 2 * k := lst_len
    unfold lst
    by_cases q : i = k
    · subst q
      rw [List.getElem?_append_right (by omega), List.getElem?_append_right (by omega), hL, Nat.sub_self, show 2 * i + 1 - 2 * i = 1 by omega]
      exact ⟨rfl, rfl⟩
    · rw [List.getElem?_append_left (by omega), List.getElem?_append_left (by omega)]
      exact ih (by omega)
/-- the graph's world: f what states[] holds -/
def wG (g : Gh) (b a1 a2 a3 : Nat) (f : Nat → Option Nat) (L : va_W) : va_W := (b, .inr (0, [.ref a1, .int 1, .int 0, .int 0, .int 0, .int 0, .ref a2, .ref a3])) :: (a1, .inl (gQ g, 60, .inr (.inr (.inr (.inr f))))) :: (a2, .inl (gI g, 60, .inl (fun _ => 0))) :: (a3, .inl (gZ g, 60, .inl (fun _ => 0))) :: L
theorem wG_get {g : Gh} {b a1 a2 a3 : Nat} {f : Nat → Option Nat} {L : va_W} {i : Nat} : (wG g b a1 a2 a3 f L)[4 + i]? = L[i]? := by
  unfold wG
  rw [show 4 + i = i + 1 + 1 + 1 + 1 by omega, List.getElem?_cons_succ, List.getElem?_cons_succ, List.getElem?_cons_succ, List.getElem?_cons_succ]
theorem wG_set {g : Gh} {b a1 a2 a3 : Nat} {f : Nat → Option Nat} {L : va_W} {i : Nat} {x : Nat × va_E} : (wG g b a1 a2 a3 f L).set (4 + i) x = wG g b a1 a2 a3 f (L.set i x) := by
  unfold wG
  rw [show 4 + i = i + 1 + 1 + 1 + 1 by omega, List.set_cons_succ, List.set_cons_succ, List.set_cons_succ, List.set_cons_succ]
def PoG (g : Gh) (b n : Nat) (_ H1 : Heap) : Prop := ∃ (a1 a2 a3 : Nat) (f : Nat → Option Nat) (aS aN : Nat → Nat), (∀ i, i < 60 → f i = some (aS i)) ∧ va_P g.1 classes (wG g b a1 a2 a3 f (lst g aS aN 60)) H1 ∧ va_D (fun x => b = x ∨ n ≤ x) (wG g b a1 a2 a3 f (lst g aS aN 60))
set_option maxHeartbeats 8000000 in
theorem lp_G_init {l : Launch} {R : Room} {args : Array Value} {M : MT} {g : Gh} {Q : State → Prop} (C : Cy args M g "GameGraph" b_G_init 2) {b a1 a2 a3 : Nat} {A : Nat → Prop} {H0 : Heap} (hA : ∀ q : Nat, H0.size ≤ q → A q) (hR : 3 ≤ R.frames ∧ 200 ≤ R.locals ∧ 123 ≤ R.cells ∧ 1560 ≤ R.slots)
    (kk : ∀ (f : Nat → Option Nat) (aS aN : Nat → Nat) (H : Heap) (locs : List Loc) (la : Array Slot), (∀ i, i < 60 → f i = some (aS i)) → va_P g.1 classes (wG g b a1 a2 a3 f (lst g aS aN 60)) H → va_D A (wG g b a1 a2 a3 f (lst g aS aN 60)) → va_S A H0 H locs → W (mP M) l (mE M) R (mS M) (mM M) args (mB M) (mT M) (mC M) H locs 123 1560 Q (F0 (mM M) 74 la [])) :
    ∀ (n k : Nat) (f : Nat → Option Nat) (aS aN : Nat → Nat) (H : Heap) (locs : List Loc) (la : Array Slot), k ≤ 60 → 61 ≤ k + n → (∀ i, i < k → f i = some (aS i)) → va_P g.1 classes (wG g b a1 a2 a3 f (lst g aS aN k)) H → va_D A (wG g b a1 a2 a3 f (lst g aS aN k)) → va_S A H0 H locs → lv_has la 2 [(1, .int (nI k)), (0, .ref b)] →
      W (mP M) l (mE M) R (mS M) (mM M) args (mB M) (mT M) (mC M) H locs (3 + 2 * k) (180 + 23 * k) Q (F0 (mM M) 36 la []) := by
  intro n
  induction n with
  | zero => intro k f aS aN H locs la h1 h2; omega
  | succ n ih =>
    intro k f aS aN H locs la b1 b2 hf hP hD hS hl
    refine lv_iload_n C.1 C.2.1 d_G_init_36 rfl (lv_at hl 0 rfl) ?_
    refine lv_bipush (v := nI 60) C.1 C.2.1 d_G_init_37 (by decide) ?_
    refine lv_icmp_ge (tgt := 74) C.1 C.2.1 d_G_init_39 (by decide) (fun c1 => ?_) (fun c1 => ?_)
    · have e := le_ge (by omega) (by omega) c1
      have e : k = 60 := by omega
      subst e
      exact kk f aS aN H locs la hf hP hD hS
    have hk := nle_lt (by omega) (by omega) c1
    refine lv_aload_n C.1 C.2.1 d_G_init_42 rfl (lv_at hl 1 rfl) ?_
    refine va_get (ci := 0) (v := .ref a1) (C := R_G) (T := F_G) (N := 8) C.1 C.2.1 C.ts (fun w hw => TG_TA w (i_G w hw)) C.2.2.2.1 C.K hP 0 rfl rfl 0 (by decide) (C.w wf_G_11) (fun _ h9 => h9) rfl d_G_init_43 ?_
    refine lv_iload_n C.1 C.2.1 d_G_init_46 rfl (lv_at hl 0 rfl) ?_
    refine va_new (ci := 1) (fs := zS) (C := R_S) (T := F_S) (N := 11) C.1 C.2.1 C.ts (fun w hw => TG_TA w (i_S w hw)) t_S t_S_ok C.2.2.2.1 (C.w wk_G_9) (C.w wn_S) (C.w wz_S) C.K hP hD hS hA rfl (fun j hj => by rcases (show j = 0 ∨ j = 1 ∨ j = 2 ∨ j = 3 ∨ j = 4 ∨ j = 5 ∨ j = 6 ∨ j = 7 ∨ j = 8 ∨ j = 9 ∨ j = 10 by omega) with rfl | rfl | rfl | rfl | rfl | rfl | rfl | rfl | rfl | rfl | rfl <;> rfl) (by omega) (by omega) d_G_init_47 (fun q H1 hP1 hD1 hS1 => ?_)
    refine lv_dup C.1 C.2.1 d_G_init_50 rfl ?_
    have hqat : (wG g b a1 a2 a3 f (lst g aS aN k) ++ [(q, Sum.inr (1, zS))])[(wG g b a1 a2 a3 f (lst g aS aN k)).length]? = some (q, Sum.inr (1, zS)) := by rw [List.getElem?_append_right (Nat.le_refl _), Nat.sub_self]; rfl
    have hAq : A q := hD1.2 _ _ hqat
    refine M_callIN (st := [.ref q, .int (nI k), .ref a1]) (As := []) C (i_S_init l g q H1.size) wc_S_init wz_S wq_G_27 wi_S_init rfl ⟨by decide, by decide⟩ rfl ⟨by show 2 + 1 ≤ R.frames; omega, by show 8 + (1 + 11) + 80 ≤ R.locals; omega⟩ ⟨by show 3 + 2 * k + 1 + 1 ≤ R.cells; omega, by show 180 + 23 * k + 11 + 12 ≤ R.slots; omega⟩ (Nat.le_of_ble_eq_true rfl) d_G_init_51 hl.1 (hP1 _ _ hqat) rfl hS1 (fun x hx => ?_) (fun H2 locs2 hPo hz2 hk2 hS2 => ?_)
    · rcases hx with hx | hx
      · rw [← hx]; exact hAq
      · exact hA _ (Nat.le_trans hS1.1 hx)
    obtain ⟨q2, hP2, hD2⟩ := hPo
    obtain ⟨hP2, hD2⟩ := joinQ hP1 hD1 hk2 hP2 hD2 (fun x hx => hA _ (Nat.le_trans hS1.1 hx))
    have hl2 : (wG g b a1 a2 a3 f (lst g aS aN k)).length = 4 + 2 * k := by show (lst g aS aN k).length + 1 + 1 + 1 + 1 = _; rw [lst_len]; omega
    have hqi : (wG g b a1 a2 a3 f (lst g aS aN k) ++ [(q, Sum.inr (1, zN q2)), (q2, .inl (gI g, 12, .inl (fun _ => 0)))])[4 + 2 * k]? = some (q, Sum.inr (1, zN q2)) := by rw [List.getElem?_append_right (by omega), hl2, Nat.sub_self]; rfl
    have hck : (nI k).toNatClampNeg = k := nI_clamp (by omega)
    refine va_astq (n := 60) C.1 C.2.1 C.K hP2 hD2 hS2 1 2 (4 + 2 * k) 1 (r := (R_S, F_S, 11)) rfl rfl hqi rfl (vp_in_nI (by omega) (by decide)) d_G_init_54 (fun H3 locs3 hP3 hD3 hS3 => ?_)
    rw [hck] at hP3 hD3
    have hP3 : va_P g.1 classes (wG g b a1 a2 a3 (va_up f k (some q)) (lst g aS aN k ++ [(q, Sum.inr (1, zN q2)), (q2, .inl (gI g, 12, .inl (fun _ => 0)))])) H3 := hP3
    have hD3 : va_D A (wG g b a1 a2 a3 (va_up f k (some q)) (lst g aS aN k ++ [(q, Sum.inr (1, zN q2)), (q2, .inl (gI g, 12, .inl (fun _ => 0)))])) := hD3
    refine lv_aload_n C.1 C.2.1 d_G_init_55 rfl (lv_at hl 1 rfl) ?_
    refine va_get (ci := 0) (v := .ref a1) (C := R_G) (T := F_G) (N := 8) C.1 C.2.1 C.ts (fun w hw => TG_TA w (i_G w hw)) C.2.2.2.1 C.K hP3 0 rfl rfl 0 (by decide) (C.w wf_G_11) (fun _ h9 => h9) rfl d_G_init_56 ?_
    refine lv_iload_n C.1 C.2.1 d_G_init_59 rfl (lv_at hl 0 rfl) ?_
    refine va_aldq (n := 60) C.1 C.2.1 C.K hP3 1 2 (C := R_S) rfl rfl (vp_in_nI (by omega) (by decide)) d_G_init_60 ?_
    rw [hck, va_up_self]
    refine lv_bipush (v := 50) C.1 C.2.1 d_G_init_61 (by decide) ?_
    refine lv_bipush (v := 50) C.1 C.2.1 d_G_init_63 (by decide) ?_
    have hq3 : (wG g b a1 a2 a3 (va_up f k (some q)) (lst g aS aN k ++ [(q, Sum.inr (1, zN q2)), (q2, .inl (gI g, 12, .inl (fun _ => 0)))]))[4 + 2 * k]? = some (q, Sum.inr (1, zN q2)) := by
      rw [wG_get, List.getElem?_append_right (by rw [lst_len]; omega), lst_len, Nat.sub_self]; rfl
    refine M_callV (st := []) (As := [.int 50, .int 50]) C "GameGraph$State" (i_S_end l g q q2 H3.size) wc_S_end (fun _ _ => codeIs) wz_S wl_G_28 wi_S_end ws_S_end ⟨by decide, by decide⟩ rfl hP3 hq3 (q := (R_S, F_S, 11)) rfl rfl ⟨by show 1 + 1 ≤ R.frames; omega, by show 8 + (3 + 11) + 40 ≤ R.locals; omega⟩ ⟨by show 3 + 2 * k + 1 + 1 + 0 ≤ R.cells; omega, by show 180 + 23 * k + 11 + 12 + 0 ≤ R.slots; omega⟩ (Nat.le_of_ble_eq_true rfl) d_G_init_65 hl.1 (hP3 _ _ hq3) rfl hS3 (fun x hx => by rw [← hx]; exact hAq) (fun H4 locs4 hPo4 hz4 hk4 hS4 => ?_)
    have hP4 := setQ hP3 hD3 hq3 hk4 hPo4
    have hD4 := hD3.set (e := Sum.inr (1, zE q2)) hq3
    have hL : (wG g b a1 a2 a3 (va_up f k (some q)) (lst g aS aN k ++ [(q, Sum.inr (1, zN q2)), (q2, .inl (gI g, 12, .inl (fun _ => 0)))])).set (4 + 2 * k) (q, Sum.inr (1, zE q2)) = wG g b a1 a2 a3 (va_up f k (some q)) (lst g (va_up aS k q) (va_up aN k q2) (k + 1)) := by
      rw [lst_s, va_up_self, va_up_self, lst_congr (aS := va_up aS k q) (aS' := aS) (aN := va_up aN k q2) (aN' := aN) (fun i hi => ⟨va_up_ne _ _ (by omega), va_up_ne _ _ (by omega)⟩)]
      rw [wG_set, List.set_append_right _ _ (by rw [lst_len]; omega), lst_len, Nat.sub_self]
      rfl
    rw [hL] at hP4 hD4
    refine lv_iinc (k := 0) (v := nI (k + 1)) (lv' := [(1, .int (nI (k + 1))), (0, .ref b)]) C.1 C.2.1 d_G_init_68 hl rfl (nI_1 _) (by decide) rfl (fun la hl => ?_)
    refine lv_goto (tgt := 36) C.1 C.2.1 d_G_init_71 (by decide) ?_
    refine W.widen (k := 3 + 2 * (k + 1)) (n := 180 + 23 * (k + 1)) (by show 3 + 2 * k + 1 + 1 + 0 ≤ _; omega) (by show 180 + 23 * k + 11 + 12 + 0 ≤ _; omega) ?_
    refine ih (k + 1) _ _ _ H4 locs4 la (by omega) (by omega) (fun i hi => ?_) hP4 hD4 hS4 hl
    by_cases e : i = k
    · subst e; rw [va_up_self, va_up_self]
    · rw [va_up_ne _ _ e, va_up_ne _ _ e]; exact hf i (by omega)
set_option maxHeartbeats 8000000 in
theorem i_G_init (l : Launch) (g : Gh) (b n : Nat) : Cc l g y_G_init k_G_init (RM 6 123 1560) [.ref b] n (fun x => b = x ∨ n ≤ x) (fun H => va_at g.1 classes (b, .inr (0, zG)) H) (PoG g b n) := by
  refine Cc_of (by decide) (Nat.le_of_ble_eq_true rfl) (fun M C hr hnm hsz hP0 la hl => ?_)
  have C : Cy _ M g "GameGraph" b_G_init 2 := C
  have hl : lv_has la 2 [(0, .ref b)] := hl
  have hP : va_P g.1 classes [(b, .inr (0, zG))] (mS M).heap := P1 hP0
  generalize hAe : (fun x => b = x ∨ n ≤ x) = A
  have hA : ∀ q : Nat, (mS M).heap.size ≤ q → A q := fun q h => by rw [← hAe]; exact Or.inr (by omega)
  have hD : va_D A [(b, .inr (0, zG))] := Done (by rw [← hAe]; exact Or.inl rfl)
  have hS : va_S A (mS M).heap (mS M).heap [] := va_S.rf
  refine lv_aload_n C.1 C.2.1 d_G_init_0 rfl (lv_at hl 0 rfl) ?_
  refine W.objInit C.1 C.2.1 C.2.2.2.1 (C.w wo_G) (C.w wo_i) (C.w wo_c) rfl (by rw [C.2.2.1]; exact hl.1) rfl d_G_init_1 (Nat.le_of_ble_eq_true rfl) (Nat.le_of_ble_eq_true rfl) ?_
  refine W.eq (g2 := F0 (mM M) 4 la []) rfl ?_
  refine lv_aload_n C.1 C.2.1 d_G_init_4 rfl (lv_at hl 0 rfl) ?_
  refine lv_bipush (v := 60) C.1 C.2.1 d_G_init_5 (by decide) ?_
  refine va_newq (N' := 60) (C := "GameGraph$State") C.1 C.2.1 C.2.2.2.1 (C.w wk_G_9) (va_AO.of (C.w wr_Q)) C.K hP hD hS hA (by decide) rfl (by decide) (by decide) (by decide) d_G_init_7 (fun a1 c1 H hK1 hP hD hS => ?_)
  have e1 : gQ g = c1 := arr_id hK1 (i := 2) (j := 4) rfl rfl
  subst e1
  refine va_putF (ci := 0) (v := .ref a1) (ty := .array (.object "GameGraph$State")) (C := R_G) (T := F_G) (N := 8) C.1 C.2.1 C.ts (fun w hw => TG_TA w (i_G w hw)) t_G t_G_ok n_G C.2.2.2.1 C.K hP hD hS 0 rfl rfl 0 (by decide) (C.w wf_G_11) (fun _ h9 => h9) rfl hnm rfl (by decide +kernel) rfl rfl (Nat.le_of_ble_eq_true rfl) d_G_init_10 (fun H locs hP hD hS => ?_)
  refine lv_aload_n C.1 C.2.1 d_G_init_13 rfl (lv_at hl 0 rfl) ?_
  refine lv_iconst (v := 1) C.1 C.2.1 d_G_init_14 (by decide) ?_
  refine va_put (ci := 0) (v := .int 1) (ty := .int) (C := R_G) (T := F_G) (N := 8) C.1 C.2.1 C.ts (fun w hw => TG_TA w (i_G w hw)) t_G t_G_ok n_G C.2.2.2.1 C.K hP hD hS 0 rfl rfl 1 (by decide) (C.w wf_G_15) (fun _ h9 => h9) rfl (by decide +kernel) rfl rfl (Nat.le_of_ble_eq_true rfl) d_G_init_15 (fun H locs hP hD hS => ?_)
  refine lv_aload_n C.1 C.2.1 d_G_init_18 rfl (lv_at hl 0 rfl) ?_
  refine lv_bipush (v := 60) C.1 C.2.1 d_G_init_19 (by decide) ?_
  refine M_newa (atype := .int) (t0 := 0) (a0 := (60, .inl (fun _ => 0))) C wr_I rfl rfl hP hD hS hA (fun _ => rfl) (by decide) rfl (by decide) (by decide) (by decide) d_G_init_21 (fun a2 H hP hD hS => ?_)
  refine va_putF (ci := 0) (v := .ref a2) (ty := .array .int) (C := R_G) (T := F_G) (N := 8) C.1 C.2.1 C.ts (fun w hw => TG_TA w (i_G w hw)) t_G t_G_ok n_G C.2.2.2.1 C.K hP hD hS 0 rfl rfl 6 (by decide) (C.w wf_G_19) (fun _ h9 => h9) rfl hnm rfl (by decide +kernel) rfl rfl (Nat.le_of_ble_eq_true rfl) d_G_init_23 (fun H locs hP hD hS => ?_)
  refine lv_aload_n C.1 C.2.1 d_G_init_26 rfl (lv_at hl 0 rfl) ?_
  refine lv_bipush (v := 60) C.1 C.2.1 d_G_init_27 (by decide) ?_
  refine M_newa (atype := .boolean) (t0 := 1) (a0 := (60, .inl (fun _ => 0))) C wr_Z rfl rfl hP hD hS hA (fun _ => rfl) (by decide) rfl (by decide) (by decide) (by decide) d_G_init_29 (fun a3 H hP hD hS => ?_)
  refine va_putF (ci := 0) (v := .ref a3) (ty := .array .boolean) (C := R_G) (T := F_G) (N := 8) C.1 C.2.1 C.ts (fun w hw => TG_TA w (i_G w hw)) t_G t_G_ok n_G C.2.2.2.1 C.K hP hD hS 0 rfl rfl 7 (by decide) (C.w wf_G_23) (fun _ h9 => h9) rfl hnm rfl (by decide +kernel) rfl rfl (Nat.le_of_ble_eq_true rfl) d_G_init_31 (fun H locs hP hD hS => ?_)
  refine lv_iconst (v := 0) C.1 C.2.1 d_G_init_34 (by decide) ?_
  refine lv_istore_n (lv' := [(1, .int (nI 0)), (0, .ref b)]) C.1 C.2.1 d_G_init_35 rfl hl (by decide) rfl (fun la hl => ?_)
  refine lp_G_init (b := b) (a1 := a1) (a2 := a2) (a3 := a3) C hA ⟨by decide, by decide, by decide, by decide⟩ (fun f aS aN H locs la hf hP hD hS => ?_) 61 0 (fun _ => none) (fun _ => 0) (fun _ => 0) H locs la (by omega) (by omega) (fun i hi => by omega) hP hD hS hl
  exact M_vret C hr d_G_init_74 hS ⟨a1, a2, a3, f, aS, aN, hf, hP, by rw [hAe]; exact hD⟩
end
section
-- ===== printed by gen/w17.py: GameGraphModel() =====
/-- the model's world -/
def wMo (g : Gh) (b : Nat) (m : Nat → Nat) : va_W := [(b, .inr (2, [.int 1, .ref (m 5), .ref (m 6), .ref (m 7), .ref (m 8), .ref (m 9), .ref (m 10), .ref (m 11), .ref (m 12), .ref (m 13), .ref (m 14), .ref (m 15), .int 0])),
  (m 5, .inl (gZ g, 60, .inl (fun _ => 0))), (m 6, .inl (gI g, 60, .inl (upd (fun _ => 0) 0 50))), (m 7, .inl (gI g, 60, .inl (upd (fun _ => 0) 0 50))), (m 8, .inl (gI g, 60, .inl (fun _ => 0))), (m 9, .inl (gI g, 60, .inl (fun _ => 0))), (m 10, .inl (gI g, 720, .inl (fun _ => 0))), (m 11, .inl (gZ g, 60, .inl (fun _ => 0))), (m 12, .inl (gZ g, 60, .inl (fun _ => 0))), (m 13, .inl (gZ g, 60, .inl (fun _ => 0))), (m 14, .inl (gI g, 60, .inl (fun _ => 0))), (m 15, .inl (gI g, 60, .inl (fun _ => 0)))]
def PoM (g : Gh) (b n : Nat) (_ H1 : Heap) : Prop := ∃ m : Nat → Nat, va_P g.1 classes (wMo g b m) H1 ∧ va_D (fun x => b = x ∨ n ≤ x) (wMo g b m)
set_option maxHeartbeats 8000000 in
theorem i_M_init (l : Launch) (g : Gh) (b n : Nat) : Cc l g y_M_init k_M_init (RM 6 11 1320) [.ref b] n (fun x => b = x ∨ n ≤ x) (fun H => va_at g.1 classes (b, .inr (2, zM)) H) (PoM g b n) := by
  refine Cc_of (by decide) (Nat.le_of_ble_eq_true rfl) (fun M C hr hnm hsz hP0 la hl => ?_)
  have C : Cy _ M g "GameGraphModel" b_M_init 1 := C
  have hl : lv_has la 1 [(0, .ref b)] := hl
  have hP : va_P g.1 classes [(b, .inr (2, zM))] (mS M).heap := P1 hP0
  generalize hAe : (fun x => b = x ∨ n ≤ x) = A
  have hA : ∀ q : Nat, (mS M).heap.size ≤ q → A q := fun q h => by rw [← hAe]; exact Or.inr (by omega)
  have hD : va_D A [(b, .inr (2, zM))] := Done (by rw [← hAe]; exact Or.inl rfl)
  have hS : va_S A (mS M).heap (mS M).heap [] := va_S.rf
  refine lv_aload_n C.1 C.2.1 d_M_init_0 rfl (lv_at hl 0 rfl) ?_
  refine W.objInit C.1 C.2.1 C.2.2.2.1 (C.w wo_M) (C.w wo_i) (C.w wo_c) rfl (by rw [C.2.2.1]; exact hl.1) rfl d_M_init_1 (Nat.le_of_ble_eq_true rfl) (Nat.le_of_ble_eq_true rfl) ?_
  refine W.eq (g2 := F0 (mM M) 4 la []) rfl ?_
  refine lv_aload_n C.1 C.2.1 d_M_init_4 rfl (lv_at hl 0 rfl) ?_
  refine lv_iconst (v := 1) C.1 C.2.1 d_M_init_5 (by decide) ?_
  refine va_put (ci := 2) (v := .int 1) (ty := .int) (C := R_M) (T := F_M) (N := 13) C.1 C.2.1 C.ts (fun w hw => TG_TA w (i_M w hw)) t_M t_M_ok n_M C.2.2.2.1 C.K hP hD hS 0 rfl rfl 0 (by decide) (C.w wf_M_7) (fun _ h9 => h9) rfl (by decide +kernel) rfl rfl (Nat.le_of_ble_eq_true rfl) d_M_init_6 (fun H locs hP hD hS => ?_)
  have hP : va_P g.1 classes [(b, .inr (2, [.int 1, .null, .null, .null, .null, .null, .null, .null, .null, .null, .null, .null, .int 0]))] H := hP
  have hD : va_D A [(b, .inr (2, [.int 1, .null, .null, .null, .null, .null, .null, .null, .null, .null, .null, .null, .int 0]))] := hD
  refine lv_aload_n C.1 C.2.1 d_M_init_9 rfl (lv_at hl 0 rfl) ?_
  refine lv_bipush (v := 60) C.1 C.2.1 d_M_init_10 (by decide) ?_
  refine M_newa (atype := .boolean) (t0 := 1) (a0 := (60, .inl (fun _ => 0))) C wr_Z rfl rfl hP hD hS hA (fun _ => rfl) (by decide) rfl (by decide) (by decide) (by decide) d_M_init_12 (fun m5 H hP hD hS => ?_)
  have hP : va_P g.1 classes [(b, .inr (2, [.int 1, .null, .null, .null, .null, .null, .null, .null, .null, .null, .null, .null, .int 0])), (m5, .inl (gZ g, 60, .inl (fun _ => 0)))] H := hP
  have hD : va_D A [(b, .inr (2, [.int 1, .null, .null, .null, .null, .null, .null, .null, .null, .null, .null, .null, .int 0])), (m5, .inl (gZ g, 60, .inl (fun _ => 0)))] := hD
  refine va_putF (ci := 2) (v := .ref m5) (ty := .array .boolean) (C := R_M) (T := F_M) (N := 13) C.1 C.2.1 C.ts (fun w hw => TG_TA w (i_M w hw)) t_M t_M_ok n_M C.2.2.2.1 C.K hP hD hS 0 rfl rfl 1 (by decide) (C.w wf_M_13) (fun _ h9 => h9) rfl hnm rfl (by decide +kernel) rfl rfl (Nat.le_of_ble_eq_true rfl) d_M_init_14 (fun H locs hP hD hS => ?_)
  have hP : va_P g.1 classes [(b, .inr (2, [.int 1, .ref m5, .null, .null, .null, .null, .null, .null, .null, .null, .null, .null, .int 0])), (m5, .inl (gZ g, 60, .inl (fun _ => 0)))] H := hP
  have hD : va_D A [(b, .inr (2, [.int 1, .ref m5, .null, .null, .null, .null, .null, .null, .null, .null, .null, .null, .int 0])), (m5, .inl (gZ g, 60, .inl (fun _ => 0)))] := hD
  refine lv_aload_n C.1 C.2.1 d_M_init_17 rfl (lv_at hl 0 rfl) ?_
  refine lv_bipush (v := 60) C.1 C.2.1 d_M_init_18 (by decide) ?_
  refine M_newa (atype := .int) (t0 := 0) (a0 := (60, .inl (fun _ => 0))) C wr_I rfl rfl hP hD hS hA (fun _ => rfl) (by decide) rfl (by decide) (by decide) (by decide) d_M_init_20 (fun m6 H hP hD hS => ?_)
  have hP : va_P g.1 classes [(b, .inr (2, [.int 1, .ref m5, .null, .null, .null, .null, .null, .null, .null, .null, .null, .null, .int 0])), (m5, .inl (gZ g, 60, .inl (fun _ => 0))), (m6, .inl (gI g, 60, .inl (fun _ => 0)))] H := hP
  have hD : va_D A [(b, .inr (2, [.int 1, .ref m5, .null, .null, .null, .null, .null, .null, .null, .null, .null, .null, .int 0])), (m5, .inl (gZ g, 60, .inl (fun _ => 0))), (m6, .inl (gI g, 60, .inl (fun _ => 0)))] := hD
  refine va_putF (ci := 2) (v := .ref m6) (ty := .array .int) (C := R_M) (T := F_M) (N := 13) C.1 C.2.1 C.ts (fun w hw => TG_TA w (i_M w hw)) t_M t_M_ok n_M C.2.2.2.1 C.K hP hD hS 0 rfl rfl 2 (by decide) (C.w wf_M_17) (fun _ h9 => h9) rfl hnm rfl (by decide +kernel) rfl rfl (Nat.le_of_ble_eq_true rfl) d_M_init_22 (fun H locs hP hD hS => ?_)
  have hP : va_P g.1 classes [(b, .inr (2, [.int 1, .ref m5, .ref m6, .null, .null, .null, .null, .null, .null, .null, .null, .null, .int 0])), (m5, .inl (gZ g, 60, .inl (fun _ => 0))), (m6, .inl (gI g, 60, .inl (fun _ => 0)))] H := hP
  have hD : va_D A [(b, .inr (2, [.int 1, .ref m5, .ref m6, .null, .null, .null, .null, .null, .null, .null, .null, .null, .int 0])), (m5, .inl (gZ g, 60, .inl (fun _ => 0))), (m6, .inl (gI g, 60, .inl (fun _ => 0)))] := hD
  refine lv_aload_n C.1 C.2.1 d_M_init_25 rfl (lv_at hl 0 rfl) ?_
  refine lv_bipush (v := 60) C.1 C.2.1 d_M_init_26 (by decide) ?_
  refine M_newa (atype := .int) (t0 := 0) (a0 := (60, .inl (fun _ => 0))) C wr_I rfl rfl hP hD hS hA (fun _ => rfl) (by decide) rfl (by decide) (by decide) (by decide) d_M_init_28 (fun m7 H hP hD hS => ?_)
  have hP : va_P g.1 classes [(b, .inr (2, [.int 1, .ref m5, .ref m6, .null, .null, .null, .null, .null, .null, .null, .null, .null, .int 0])), (m5, .inl (gZ g, 60, .inl (fun _ => 0))), (m6, .inl (gI g, 60, .inl (fun _ => 0))), (m7, .inl (gI g, 60, .inl (fun _ => 0)))] H := hP
  have hD : va_D A [(b, .inr (2, [.int 1, .ref m5, .ref m6, .null, .null, .null, .null, .null, .null, .null, .null, .null, .int 0])), (m5, .inl (gZ g, 60, .inl (fun _ => 0))), (m6, .inl (gI g, 60, .inl (fun _ => 0))), (m7, .inl (gI g, 60, .inl (fun _ => 0)))] := hD
  refine va_putF (ci := 2) (v := .ref m7) (ty := .array .int) (C := R_M) (T := F_M) (N := 13) C.1 C.2.1 C.ts (fun w hw => TG_TA w (i_M w hw)) t_M t_M_ok n_M C.2.2.2.1 C.K hP hD hS 0 rfl rfl 3 (by decide) (C.w wf_M_21) (fun _ h9 => h9) rfl hnm rfl (by decide +kernel) rfl rfl (Nat.le_of_ble_eq_true rfl) d_M_init_30 (fun H locs hP hD hS => ?_)
  have hP : va_P g.1 classes [(b, .inr (2, [.int 1, .ref m5, .ref m6, .ref m7, .null, .null, .null, .null, .null, .null, .null, .null, .int 0])), (m5, .inl (gZ g, 60, .inl (fun _ => 0))), (m6, .inl (gI g, 60, .inl (fun _ => 0))), (m7, .inl (gI g, 60, .inl (fun _ => 0)))] H := hP
  have hD : va_D A [(b, .inr (2, [.int 1, .ref m5, .ref m6, .ref m7, .null, .null, .null, .null, .null, .null, .null, .null, .int 0])), (m5, .inl (gZ g, 60, .inl (fun _ => 0))), (m6, .inl (gI g, 60, .inl (fun _ => 0))), (m7, .inl (gI g, 60, .inl (fun _ => 0)))] := hD
  refine lv_aload_n C.1 C.2.1 d_M_init_33 rfl (lv_at hl 0 rfl) ?_
  refine lv_bipush (v := 60) C.1 C.2.1 d_M_init_34 (by decide) ?_
  refine M_newa (atype := .int) (t0 := 0) (a0 := (60, .inl (fun _ => 0))) C wr_I rfl rfl hP hD hS hA (fun _ => rfl) (by decide) rfl (by decide) (by decide) (by decide) d_M_init_36 (fun m8 H hP hD hS => ?_)
  have hP : va_P g.1 classes [(b, .inr (2, [.int 1, .ref m5, .ref m6, .ref m7, .null, .null, .null, .null, .null, .null, .null, .null, .int 0])), (m5, .inl (gZ g, 60, .inl (fun _ => 0))), (m6, .inl (gI g, 60, .inl (fun _ => 0))), (m7, .inl (gI g, 60, .inl (fun _ => 0))), (m8, .inl (gI g, 60, .inl (fun _ => 0)))] H := hP
  have hD : va_D A [(b, .inr (2, [.int 1, .ref m5, .ref m6, .ref m7, .null, .null, .null, .null, .null, .null, .null, .null, .int 0])), (m5, .inl (gZ g, 60, .inl (fun _ => 0))), (m6, .inl (gI g, 60, .inl (fun _ => 0))), (m7, .inl (gI g, 60, .inl (fun _ => 0))), (m8, .inl (gI g, 60, .inl (fun _ => 0)))] := hD
  refine va_putF (ci := 2) (v := .ref m8) (ty := .array .int) (C := R_M) (T := F_M) (N := 13) C.1 C.2.1 C.ts (fun w hw => TG_TA w (i_M w hw)) t_M t_M_ok n_M C.2.2.2.1 C.K hP hD hS 0 rfl rfl 4 (by decide) (C.w wf_M_24) (fun _ h9 => h9) rfl hnm rfl (by decide +kernel) rfl rfl (Nat.le_of_ble_eq_true rfl) d_M_init_38 (fun H locs hP hD hS => ?_)
  have hP : va_P g.1 classes [(b, .inr (2, [.int 1, .ref m5, .ref m6, .ref m7, .ref m8, .null, .null, .null, .null, .null, .null, .null, .int 0])), (m5, .inl (gZ g, 60, .inl (fun _ => 0))), (m6, .inl (gI g, 60, .inl (fun _ => 0))), (m7, .inl (gI g, 60, .inl (fun _ => 0))), (m8, .inl (gI g, 60, .inl (fun _ => 0)))] H := hP
  have hD : va_D A [(b, .inr (2, [.int 1, .ref m5, .ref m6, .ref m7, .ref m8, .null, .null, .null, .null, .null, .null, .null, .int 0])), (m5, .inl (gZ g, 60, .inl (fun _ => 0))), (m6, .inl (gI g, 60, .inl (fun _ => 0))), (m7, .inl (gI g, 60, .inl (fun _ => 0))), (m8, .inl (gI g, 60, .inl (fun _ => 0)))] := hD
  refine lv_aload_n C.1 C.2.1 d_M_init_41 rfl (lv_at hl 0 rfl) ?_
  refine lv_bipush (v := 60) C.1 C.2.1 d_M_init_42 (by decide) ?_
  refine M_newa (atype := .int) (t0 := 0) (a0 := (60, .inl (fun _ => 0))) C wr_I rfl rfl hP hD hS hA (fun _ => rfl) (by decide) rfl (by decide) (by decide) (by decide) d_M_init_44 (fun m9 H hP hD hS => ?_)
  have hP : va_P g.1 classes [(b, .inr (2, [.int 1, .ref m5, .ref m6, .ref m7, .ref m8, .null, .null, .null, .null, .null, .null, .null, .int 0])), (m5, .inl (gZ g, 60, .inl (fun _ => 0))), (m6, .inl (gI g, 60, .inl (fun _ => 0))), (m7, .inl (gI g, 60, .inl (fun _ => 0))), (m8, .inl (gI g, 60, .inl (fun _ => 0))), (m9, .inl (gI g, 60, .inl (fun _ => 0)))] H := hP
  have hD : va_D A [(b, .inr (2, [.int 1, .ref m5, .ref m6, .ref m7, .ref m8, .null, .null, .null, .null, .null, .null, .null, .int 0])), (m5, .inl (gZ g, 60, .inl (fun _ => 0))), (m6, .inl (gI g, 60, .inl (fun _ => 0))), (m7, .inl (gI g, 60, .inl (fun _ => 0))), (m8, .inl (gI g, 60, .inl (fun _ => 0))), (m9, .inl (gI g, 60, .inl (fun _ => 0)))] := hD
  refine va_putF (ci := 2) (v := .ref m9) (ty := .array .int) (C := R_M) (T := F_M) (N := 13) C.1 C.2.1 C.ts (fun w hw => TG_TA w (i_M w hw)) t_M t_M_ok n_M C.2.2.2.1 C.K hP hD hS 0 rfl rfl 5 (by decide) (C.w wf_M_27) (fun _ h9 => h9) rfl hnm rfl (by decide +kernel) rfl rfl (Nat.le_of_ble_eq_true rfl) d_M_init_46 (fun H locs hP hD hS => ?_)
  have hP : va_P g.1 classes [(b, .inr (2, [.int 1, .ref m5, .ref m6, .ref m7, .ref m8, .ref m9, .null, .null, .null, .null, .null, .null, .int 0])), (m5, .inl (gZ g, 60, .inl (fun _ => 0))), (m6, .inl (gI g, 60, .inl (fun _ => 0))), (m7, .inl (gI g, 60, .inl (fun _ => 0))), (m8, .inl (gI g, 60, .inl (fun _ => 0))), (m9, .inl (gI g, 60, .inl (fun _ => 0)))] H := hP
  have hD : va_D A [(b, .inr (2, [.int 1, .ref m5, .ref m6, .ref m7, .ref m8, .ref m9, .null, .null, .null, .null, .null, .null, .int 0])), (m5, .inl (gZ g, 60, .inl (fun _ => 0))), (m6, .inl (gI g, 60, .inl (fun _ => 0))), (m7, .inl (gI g, 60, .inl (fun _ => 0))), (m8, .inl (gI g, 60, .inl (fun _ => 0))), (m9, .inl (gI g, 60, .inl (fun _ => 0)))] := hD
  refine lv_aload_n C.1 C.2.1 d_M_init_49 rfl (lv_at hl 0 rfl) ?_
  refine lv_sipush (v := 720) C.1 C.2.1 d_M_init_50 (by decide) ?_
  refine M_newa (atype := .int) (t0 := 0) (a0 := (720, .inl (fun _ => 0))) C wr_I rfl rfl hP hD hS hA (fun _ => rfl) (by decide) rfl (by decide) (by decide) (by decide) d_M_init_53 (fun m10 H hP hD hS => ?_)
  have hP : va_P g.1 classes [(b, .inr (2, [.int 1, .ref m5, .ref m6, .ref m7, .ref m8, .ref m9, .null, .null, .null, .null, .null, .null, .int 0])), (m5, .inl (gZ g, 60, .inl (fun _ => 0))), (m6, .inl (gI g, 60, .inl (fun _ => 0))), (m7, .inl (gI g, 60, .inl (fun _ => 0))), (m8, .inl (gI g, 60, .inl (fun _ => 0))), (m9, .inl (gI g, 60, .inl (fun _ => 0))), (m10, .inl (gI g, 720, .inl (fun _ => 0)))] H := hP
  have hD : va_D A [(b, .inr (2, [.int 1, .ref m5, .ref m6, .ref m7, .ref m8, .ref m9, .null, .null, .null, .null, .null, .null, .int 0])), (m5, .inl (gZ g, 60, .inl (fun _ => 0))), (m6, .inl (gI g, 60, .inl (fun _ => 0))), (m7, .inl (gI g, 60, .inl (fun _ => 0))), (m8, .inl (gI g, 60, .inl (fun _ => 0))), (m9, .inl (gI g, 60, .inl (fun _ => 0))), (m10, .inl (gI g, 720, .inl (fun _ => 0)))] := hD
  refine va_putF (ci := 2) (v := .ref m10) (ty := .array .int) (C := R_M) (T := F_M) (N := 13) C.1 C.2.1 C.ts (fun w hw => TG_TA w (i_M w hw)) t_M t_M_ok n_M C.2.2.2.1 C.K hP hD hS 0 rfl rfl 6 (by decide) (C.w wf_M_30) (fun _ h9 => h9) rfl hnm rfl (by decide +kernel) rfl rfl (Nat.le_of_ble_eq_true rfl) d_M_init_55 (fun H locs hP hD hS => ?_)
  have hP : va_P g.1 classes [(b, .inr (2, [.int 1, .ref m5, .ref m6, .ref m7, .ref m8, .ref m9, .ref m10, .null, .null, .null, .null, .null, .int 0])), (m5, .inl (gZ g, 60, .inl (fun _ => 0))), (m6, .inl (gI g, 60, .inl (fun _ => 0))), (m7, .inl (gI g, 60, .inl (fun _ => 0))), (m8, .inl (gI g, 60, .inl (fun _ => 0))), (m9, .inl (gI g, 60, .inl (fun _ => 0))), (m10, .inl (gI g, 720, .inl (fun _ => 0)))] H := hP
  have hD : va_D A [(b, .inr (2, [.int 1, .ref m5, .ref m6, .ref m7, .ref m8, .ref m9, .ref m10, .null, .null, .null, .null, .null, .int 0])), (m5, .inl (gZ g, 60, .inl (fun _ => 0))), (m6, .inl (gI g, 60, .inl (fun _ => 0))), (m7, .inl (gI g, 60, .inl (fun _ => 0))), (m8, .inl (gI g, 60, .inl (fun _ => 0))), (m9, .inl (gI g, 60, .inl (fun _ => 0))), (m10, .inl (gI g, 720, .inl (fun _ => 0)))] := hD
  refine lv_aload_n C.1 C.2.1 d_M_init_58 rfl (lv_at hl 0 rfl) ?_
  refine lv_bipush (v := 60) C.1 C.2.1 d_M_init_59 (by decide) ?_
  refine M_newa (atype := .boolean) (t0 := 1) (a0 := (60, .inl (fun _ => 0))) C wr_Z rfl rfl hP hD hS hA (fun _ => rfl) (by decide) rfl (by decide) (by decide) (by decide) d_M_init_61 (fun m11 H hP hD hS => ?_)
  have hP : va_P g.1 classes [(b, .inr (2, [.int 1, .ref m5, .ref m6, .ref m7, .ref m8, .ref m9, .ref m10, .null, .null, .null, .null, .null, .int 0])), (m5, .inl (gZ g, 60, .inl (fun _ => 0))), (m6, .inl (gI g, 60, .inl (fun _ => 0))), (m7, .inl (gI g, 60, .inl (fun _ => 0))), (m8, .inl (gI g, 60, .inl (fun _ => 0))), (m9, .inl (gI g, 60, .inl (fun _ => 0))), (m10, .inl (gI g, 720, .inl (fun _ => 0))), (m11, .inl (gZ g, 60, .inl (fun _ => 0)))] H := hP
  have hD : va_D A [(b, .inr (2, [.int 1, .ref m5, .ref m6, .ref m7, .ref m8, .ref m9, .ref m10, .null, .null, .null, .null, .null, .int 0])), (m5, .inl (gZ g, 60, .inl (fun _ => 0))), (m6, .inl (gI g, 60, .inl (fun _ => 0))), (m7, .inl (gI g, 60, .inl (fun _ => 0))), (m8, .inl (gI g, 60, .inl (fun _ => 0))), (m9, .inl (gI g, 60, .inl (fun _ => 0))), (m10, .inl (gI g, 720, .inl (fun _ => 0))), (m11, .inl (gZ g, 60, .inl (fun _ => 0)))] := hD
  refine va_putF (ci := 2) (v := .ref m11) (ty := .array .boolean) (C := R_M) (T := F_M) (N := 13) C.1 C.2.1 C.ts (fun w hw => TG_TA w (i_M w hw)) t_M t_M_ok n_M C.2.2.2.1 C.K hP hD hS 0 rfl rfl 7 (by decide) (C.w wf_M_33) (fun _ h9 => h9) rfl hnm rfl (by decide +kernel) rfl rfl (Nat.le_of_ble_eq_true rfl) d_M_init_63 (fun H locs hP hD hS => ?_)
  have hP : va_P g.1 classes [(b, .inr (2, [.int 1, .ref m5, .ref m6, .ref m7, .ref m8, .ref m9, .ref m10, .ref m11, .null, .null, .null, .null, .int 0])), (m5, .inl (gZ g, 60, .inl (fun _ => 0))), (m6, .inl (gI g, 60, .inl (fun _ => 0))), (m7, .inl (gI g, 60, .inl (fun _ => 0))), (m8, .inl (gI g, 60, .inl (fun _ => 0))), (m9, .inl (gI g, 60, .inl (fun _ => 0))), (m10, .inl (gI g, 720, .inl (fun _ => 0))), (m11, .inl (gZ g, 60, .inl (fun _ => 0)))] H := hP
  have hD : va_D A [(b, .inr (2, [.int 1, .ref m5, .ref m6, .ref m7, .ref m8, .ref m9, .ref m10, .ref m11, .null, .null, .null, .null, .int 0])), (m5, .inl (gZ g, 60, .inl (fun _ => 0))), (m6, .inl (gI g, 60, .inl (fun _ => 0))), (m7, .inl (gI g, 60, .inl (fun _ => 0))), (m8, .inl (gI g, 60, .inl (fun _ => 0))), (m9, .inl (gI g, 60, .inl (fun _ => 0))), (m10, .inl (gI g, 720, .inl (fun _ => 0))), (m11, .inl (gZ g, 60, .inl (fun _ => 0)))] := hD
  refine lv_aload_n C.1 C.2.1 d_M_init_66 rfl (lv_at hl 0 rfl) ?_
  refine lv_bipush (v := 60) C.1 C.2.1 d_M_init_67 (by decide) ?_
  refine M_newa (atype := .boolean) (t0 := 1) (a0 := (60, .inl (fun _ => 0))) C wr_Z rfl rfl hP hD hS hA (fun _ => rfl) (by decide) rfl (by decide) (by decide) (by decide) d_M_init_69 (fun m12 H hP hD hS => ?_)
  have hP : va_P g.1 classes [(b, .inr (2, [.int 1, .ref m5, .ref m6, .ref m7, .ref m8, .ref m9, .ref m10, .ref m11, .null, .null, .null, .null, .int 0])), (m5, .inl (gZ g, 60, .inl (fun _ => 0))), (m6, .inl (gI g, 60, .inl (fun _ => 0))), (m7, .inl (gI g, 60, .inl (fun _ => 0))), (m8, .inl (gI g, 60, .inl (fun _ => 0))), (m9, .inl (gI g, 60, .inl (fun _ => 0))), (m10, .inl (gI g, 720, .inl (fun _ => 0))), (m11, .inl (gZ g, 60, .inl (fun _ => 0))), (m12, .inl (gZ g, 60, .inl (fun _ => 0)))] H := hP
  have hD : va_D A [(b, .inr (2, [.int 1, .ref m5, .ref m6, .ref m7, .ref m8, .ref m9, .ref m10, .ref m11, .null, .null, .null, .null, .int 0])), (m5, .inl (gZ g, 60, .inl (fun _ => 0))), (m6, .inl (gI g, 60, .inl (fun _ => 0))), (m7, .inl (gI g, 60, .inl (fun _ => 0))), (m8, .inl (gI g, 60, .inl (fun _ => 0))), (m9, .inl (gI g, 60, .inl (fun _ => 0))), (m10, .inl (gI g, 720, .inl (fun _ => 0))), (m11, .inl (gZ g, 60, .inl (fun _ => 0))), (m12, .inl (gZ g, 60, .inl (fun _ => 0)))] := hD
  refine va_putF (ci := 2) (v := .ref m12) (ty := .array .boolean) (C := R_M) (T := F_M) (N := 13) C.1 C.2.1 C.ts (fun w hw => TG_TA w (i_M w hw)) t_M t_M_ok n_M C.2.2.2.1 C.K hP hD hS 0 rfl rfl 8 (by decide) (C.w wf_M_36) (fun _ h9 => h9) rfl hnm rfl (by decide +kernel) rfl rfl (Nat.le_of_ble_eq_true rfl) d_M_init_71 (fun H locs hP hD hS => ?_)
  have hP : va_P g.1 classes [(b, .inr (2, [.int 1, .ref m5, .ref m6, .ref m7, .ref m8, .ref m9, .ref m10, .ref m11, .ref m12, .null, .null, .null, .int 0])), (m5, .inl (gZ g, 60, .inl (fun _ => 0))), (m6, .inl (gI g, 60, .inl (fun _ => 0))), (m7, .inl (gI g, 60, .inl (fun _ => 0))), (m8, .inl (gI g, 60, .inl (fun _ => 0))), (m9, .inl (gI g, 60, .inl (fun _ => 0))), (m10, .inl (gI g, 720, .inl (fun _ => 0))), (m11, .inl (gZ g, 60, .inl (fun _ => 0))), (m12, .inl (gZ g, 60, .inl (fun _ => 0)))] H := hP
  have hD : va_D A [(b, .inr (2, [.int 1, .ref m5, .ref m6, .ref m7, .ref m8, .ref m9, .ref m10, .ref m11, .ref m12, .null, .null, .null, .int 0])), (m5, .inl (gZ g, 60, .inl (fun _ => 0))), (m6, .inl (gI g, 60, .inl (fun _ => 0))), (m7, .inl (gI g, 60, .inl (fun _ => 0))), (m8, .inl (gI g, 60, .inl (fun _ => 0))), (m9, .inl (gI g, 60, .inl (fun _ => 0))), (m10, .inl (gI g, 720, .inl (fun _ => 0))), (m11, .inl (gZ g, 60, .inl (fun _ => 0))), (m12, .inl (gZ g, 60, .inl (fun _ => 0)))] := hD
  refine lv_aload_n C.1 C.2.1 d_M_init_74 rfl (lv_at hl 0 rfl) ?_
  refine lv_bipush (v := 60) C.1 C.2.1 d_M_init_75 (by decide) ?_
  refine M_newa (atype := .boolean) (t0 := 1) (a0 := (60, .inl (fun _ => 0))) C wr_Z rfl rfl hP hD hS hA (fun _ => rfl) (by decide) rfl (by decide) (by decide) (by decide) d_M_init_77 (fun m13 H hP hD hS => ?_)
  have hP : va_P g.1 classes [(b, .inr (2, [.int 1, .ref m5, .ref m6, .ref m7, .ref m8, .ref m9, .ref m10, .ref m11, .ref m12, .null, .null, .null, .int 0])), (m5, .inl (gZ g, 60, .inl (fun _ => 0))), (m6, .inl (gI g, 60, .inl (fun _ => 0))), (m7, .inl (gI g, 60, .inl (fun _ => 0))), (m8, .inl (gI g, 60, .inl (fun _ => 0))), (m9, .inl (gI g, 60, .inl (fun _ => 0))), (m10, .inl (gI g, 720, .inl (fun _ => 0))), (m11, .inl (gZ g, 60, .inl (fun _ => 0))), (m12, .inl (gZ g, 60, .inl (fun _ => 0))), (m13, .inl (gZ g, 60, .inl (fun _ => 0)))] H := hP
  have hD : va_D A [(b, .inr (2, [.int 1, .ref m5, .ref m6, .ref m7, .ref m8, .ref m9, .ref m10, .ref m11, .ref m12, .null, .null, .null, .int 0])), (m5, .inl (gZ g, 60, .inl (fun _ => 0))), (m6, .inl (gI g, 60, .inl (fun _ => 0))), (m7, .inl (gI g, 60, .inl (fun _ => 0))), (m8, .inl (gI g, 60, .inl (fun _ => 0))), (m9, .inl (gI g, 60, .inl (fun _ => 0))), (m10, .inl (gI g, 720, .inl (fun _ => 0))), (m11, .inl (gZ g, 60, .inl (fun _ => 0))), (m12, .inl (gZ g, 60, .inl (fun _ => 0))), (m13, .inl (gZ g, 60, .inl (fun _ => 0)))] := hD
  refine va_putF (ci := 2) (v := .ref m13) (ty := .array .boolean) (C := R_M) (T := F_M) (N := 13) C.1 C.2.1 C.ts (fun w hw => TG_TA w (i_M w hw)) t_M t_M_ok n_M C.2.2.2.1 C.K hP hD hS 0 rfl rfl 9 (by decide) (C.w wf_M_39) (fun _ h9 => h9) rfl hnm rfl (by decide +kernel) rfl rfl (Nat.le_of_ble_eq_true rfl) d_M_init_79 (fun H locs hP hD hS => ?_)
  have hP : va_P g.1 classes [(b, .inr (2, [.int 1, .ref m5, .ref m6, .ref m7, .ref m8, .ref m9, .ref m10, .ref m11, .ref m12, .ref m13, .null, .null, .int 0])), (m5, .inl (gZ g, 60, .inl (fun _ => 0))), (m6, .inl (gI g, 60, .inl (fun _ => 0))), (m7, .inl (gI g, 60, .inl (fun _ => 0))), (m8, .inl (gI g, 60, .inl (fun _ => 0))), (m9, .inl (gI g, 60, .inl (fun _ => 0))), (m10, .inl (gI g, 720, .inl (fun _ => 0))), (m11, .inl (gZ g, 60, .inl (fun _ => 0))), (m12, .inl (gZ g, 60, .inl (fun _ => 0))), (m13, .inl (gZ g, 60, .inl (fun _ => 0)))] H := hP
  have hD : va_D A [(b, .inr (2, [.int 1, .ref m5, .ref m6, .ref m7, .ref m8, .ref m9, .ref m10, .ref m11, .ref m12, .ref m13, .null, .null, .int 0])), (m5, .inl (gZ g, 60, .inl (fun _ => 0))), (m6, .inl (gI g, 60, .inl (fun _ => 0))), (m7, .inl (gI g, 60, .inl (fun _ => 0))), (m8, .inl (gI g, 60, .inl (fun _ => 0))), (m9, .inl (gI g, 60, .inl (fun _ => 0))), (m10, .inl (gI g, 720, .inl (fun _ => 0))), (m11, .inl (gZ g, 60, .inl (fun _ => 0))), (m12, .inl (gZ g, 60, .inl (fun _ => 0))), (m13, .inl (gZ g, 60, .inl (fun _ => 0)))] := hD
  refine lv_aload_n C.1 C.2.1 d_M_init_82 rfl (lv_at hl 0 rfl) ?_
  refine lv_bipush (v := 60) C.1 C.2.1 d_M_init_83 (by decide) ?_
  refine M_newa (atype := .int) (t0 := 0) (a0 := (60, .inl (fun _ => 0))) C wr_I rfl rfl hP hD hS hA (fun _ => rfl) (by decide) rfl (by decide) (by decide) (by decide) d_M_init_85 (fun m14 H hP hD hS => ?_)
  have hP : va_P g.1 classes [(b, .inr (2, [.int 1, .ref m5, .ref m6, .ref m7, .ref m8, .ref m9, .ref m10, .ref m11, .ref m12, .ref m13, .null, .null, .int 0])), (m5, .inl (gZ g, 60, .inl (fun _ => 0))), (m6, .inl (gI g, 60, .inl (fun _ => 0))), (m7, .inl (gI g, 60, .inl (fun _ => 0))), (m8, .inl (gI g, 60, .inl (fun _ => 0))), (m9, .inl (gI g, 60, .inl (fun _ => 0))), (m10, .inl (gI g, 720, .inl (fun _ => 0))), (m11, .inl (gZ g, 60, .inl (fun _ => 0))), (m12, .inl (gZ g, 60, .inl (fun _ => 0))), (m13, .inl (gZ g, 60, .inl (fun _ => 0))), (m14, .inl (gI g, 60, .inl (fun _ => 0)))] H := hP
  have hD : va_D A [(b, .inr (2, [.int 1, .ref m5, .ref m6, .ref m7, .ref m8, .ref m9, .ref m10, .ref m11, .ref m12, .ref m13, .null, .null, .int 0])), (m5, .inl (gZ g, 60, .inl (fun _ => 0))), (m6, .inl (gI g, 60, .inl (fun _ => 0))), (m7, .inl (gI g, 60, .inl (fun _ => 0))), (m8, .inl (gI g, 60, .inl (fun _ => 0))), (m9, .inl (gI g, 60, .inl (fun _ => 0))), (m10, .inl (gI g, 720, .inl (fun _ => 0))), (m11, .inl (gZ g, 60, .inl (fun _ => 0))), (m12, .inl (gZ g, 60, .inl (fun _ => 0))), (m13, .inl (gZ g, 60, .inl (fun _ => 0))), (m14, .inl (gI g, 60, .inl (fun _ => 0)))] := hD
  refine va_putF (ci := 2) (v := .ref m14) (ty := .array .int) (C := R_M) (T := F_M) (N := 13) C.1 C.2.1 C.ts (fun w hw => TG_TA w (i_M w hw)) t_M t_M_ok n_M C.2.2.2.1 C.K hP hD hS 0 rfl rfl 10 (by decide) (C.w wf_M_42) (fun _ h9 => h9) rfl hnm rfl (by decide +kernel) rfl rfl (Nat.le_of_ble_eq_true rfl) d_M_init_87 (fun H locs hP hD hS => ?_)
  have hP : va_P g.1 classes [(b, .inr (2, [.int 1, .ref m5, .ref m6, .ref m7, .ref m8, .ref m9, .ref m10, .ref m11, .ref m12, .ref m13, .ref m14, .null, .int 0])), (m5, .inl (gZ g, 60, .inl (fun _ => 0))), (m6, .inl (gI g, 60, .inl (fun _ => 0))), (m7, .inl (gI g, 60, .inl (fun _ => 0))), (m8, .inl (gI g, 60, .inl (fun _ => 0))), (m9, .inl (gI g, 60, .inl (fun _ => 0))), (m10, .inl (gI g, 720, .inl (fun _ => 0))), (m11, .inl (gZ g, 60, .inl (fun _ => 0))), (m12, .inl (gZ g, 60, .inl (fun _ => 0))), (m13, .inl (gZ g, 60, .inl (fun _ => 0))), (m14, .inl (gI g, 60, .inl (fun _ => 0)))] H := hP
  have hD : va_D A [(b, .inr (2, [.int 1, .ref m5, .ref m6, .ref m7, .ref m8, .ref m9, .ref m10, .ref m11, .ref m12, .ref m13, .ref m14, .null, .int 0])), (m5, .inl (gZ g, 60, .inl (fun _ => 0))), (m6, .inl (gI g, 60, .inl (fun _ => 0))), (m7, .inl (gI g, 60, .inl (fun _ => 0))), (m8, .inl (gI g, 60, .inl (fun _ => 0))), (m9, .inl (gI g, 60, .inl (fun _ => 0))), (m10, .inl (gI g, 720, .inl (fun _ => 0))), (m11, .inl (gZ g, 60, .inl (fun _ => 0))), (m12, .inl (gZ g, 60, .inl (fun _ => 0))), (m13, .inl (gZ g, 60, .inl (fun _ => 0))), (m14, .inl (gI g, 60, .inl (fun _ => 0)))] := hD
  refine lv_aload_n C.1 C.2.1 d_M_init_90 rfl (lv_at hl 0 rfl) ?_
  refine lv_bipush (v := 60) C.1 C.2.1 d_M_init_91 (by decide) ?_
  refine M_newa (atype := .int) (t0 := 0) (a0 := (60, .inl (fun _ => 0))) C wr_I rfl rfl hP hD hS hA (fun _ => rfl) (by decide) rfl (by decide) (by decide) (by decide) d_M_init_93 (fun m15 H hP hD hS => ?_)
  have hP : va_P g.1 classes [(b, .inr (2, [.int 1, .ref m5, .ref m6, .ref m7, .ref m8, .ref m9, .ref m10, .ref m11, .ref m12, .ref m13, .ref m14, .null, .int 0])), (m5, .inl (gZ g, 60, .inl (fun _ => 0))), (m6, .inl (gI g, 60, .inl (fun _ => 0))), (m7, .inl (gI g, 60, .inl (fun _ => 0))), (m8, .inl (gI g, 60, .inl (fun _ => 0))), (m9, .inl (gI g, 60, .inl (fun _ => 0))), (m10, .inl (gI g, 720, .inl (fun _ => 0))), (m11, .inl (gZ g, 60, .inl (fun _ => 0))), (m12, .inl (gZ g, 60, .inl (fun _ => 0))), (m13, .inl (gZ g, 60, .inl (fun _ => 0))), (m14, .inl (gI g, 60, .inl (fun _ => 0))), (m15, .inl (gI g, 60, .inl (fun _ => 0)))] H := hP
  have hD : va_D A [(b, .inr (2, [.int 1, .ref m5, .ref m6, .ref m7, .ref m8, .ref m9, .ref m10, .ref m11, .ref m12, .ref m13, .ref m14, .null, .int 0])), (m5, .inl (gZ g, 60, .inl (fun _ => 0))), (m6, .inl (gI g, 60, .inl (fun _ => 0))), (m7, .inl (gI g, 60, .inl (fun _ => 0))), (m8, .inl (gI g, 60, .inl (fun _ => 0))), (m9, .inl (gI g, 60, .inl (fun _ => 0))), (m10, .inl (gI g, 720, .inl (fun _ => 0))), (m11, .inl (gZ g, 60, .inl (fun _ => 0))), (m12, .inl (gZ g, 60, .inl (fun _ => 0))), (m13, .inl (gZ g, 60, .inl (fun _ => 0))), (m14, .inl (gI g, 60, .inl (fun _ => 0))), (m15, .inl (gI g, 60, .inl (fun _ => 0)))] := hD
  refine va_putF (ci := 2) (v := .ref m15) (ty := .array .int) (C := R_M) (T := F_M) (N := 13) C.1 C.2.1 C.ts (fun w hw => TG_TA w (i_M w hw)) t_M t_M_ok n_M C.2.2.2.1 C.K hP hD hS 0 rfl rfl 11 (by decide) (C.w wf_M_45) (fun _ h9 => h9) rfl hnm rfl (by decide +kernel) rfl rfl (Nat.le_of_ble_eq_true rfl) d_M_init_95 (fun H locs hP hD hS => ?_)
  have hP : va_P g.1 classes [(b, .inr (2, [.int 1, .ref m5, .ref m6, .ref m7, .ref m8, .ref m9, .ref m10, .ref m11, .ref m12, .ref m13, .ref m14, .ref m15, .int 0])), (m5, .inl (gZ g, 60, .inl (fun _ => 0))), (m6, .inl (gI g, 60, .inl (fun _ => 0))), (m7, .inl (gI g, 60, .inl (fun _ => 0))), (m8, .inl (gI g, 60, .inl (fun _ => 0))), (m9, .inl (gI g, 60, .inl (fun _ => 0))), (m10, .inl (gI g, 720, .inl (fun _ => 0))), (m11, .inl (gZ g, 60, .inl (fun _ => 0))), (m12, .inl (gZ g, 60, .inl (fun _ => 0))), (m13, .inl (gZ g, 60, .inl (fun _ => 0))), (m14, .inl (gI g, 60, .inl (fun _ => 0))), (m15, .inl (gI g, 60, .inl (fun _ => 0)))] H := hP
  have hD : va_D A [(b, .inr (2, [.int 1, .ref m5, .ref m6, .ref m7, .ref m8, .ref m9, .ref m10, .ref m11, .ref m12, .ref m13, .ref m14, .ref m15, .int 0])), (m5, .inl (gZ g, 60, .inl (fun _ => 0))), (m6, .inl (gI g, 60, .inl (fun _ => 0))), (m7, .inl (gI g, 60, .inl (fun _ => 0))), (m8, .inl (gI g, 60, .inl (fun _ => 0))), (m9, .inl (gI g, 60, .inl (fun _ => 0))), (m10, .inl (gI g, 720, .inl (fun _ => 0))), (m11, .inl (gZ g, 60, .inl (fun _ => 0))), (m12, .inl (gZ g, 60, .inl (fun _ => 0))), (m13, .inl (gZ g, 60, .inl (fun _ => 0))), (m14, .inl (gI g, 60, .inl (fun _ => 0))), (m15, .inl (gI g, 60, .inl (fun _ => 0)))] := hD
  refine lv_aload_n C.1 C.2.1 d_M_init_98 rfl (lv_at hl 0 rfl) ?_
  refine va_get (ci := 2) (v := .ref m6) (C := R_M) (T := F_M) (N := 13) C.1 C.2.1 C.ts (fun w hw => TG_TA w (i_M w hw)) C.2.2.2.1 C.K hP 0 rfl rfl 2 (by decide) (C.w wf_M_17) (fun _ h9 => h9) rfl d_M_init_99 ?_
  refine lv_iconst (v := 0) C.1 C.2.1 d_M_init_102 (by decide) ?_
  refine lv_bipush (v := 50) C.1 C.2.1 d_M_init_103 (by decide) ?_
  refine va_iast (n := 60) C.1 C.2.1 C.K hP hD hS 2 0 rfl rfl (vp_in_nI (n := 0) (by decide) (by decide)) d_M_init_105 (fun H locs hP hD hS => ?_)
  have hP : va_P g.1 classes [(b, .inr (2, [.int 1, .ref m5, .ref m6, .ref m7, .ref m8, .ref m9, .ref m10, .ref m11, .ref m12, .ref m13, .ref m14, .ref m15, .int 0])), (m5, .inl (gZ g, 60, .inl (fun _ => 0))), (m6, .inl (gI g, 60, .inl (upd (fun _ => 0) 0 50))), (m7, .inl (gI g, 60, .inl (fun _ => 0))), (m8, .inl (gI g, 60, .inl (fun _ => 0))), (m9, .inl (gI g, 60, .inl (fun _ => 0))), (m10, .inl (gI g, 720, .inl (fun _ => 0))), (m11, .inl (gZ g, 60, .inl (fun _ => 0))), (m12, .inl (gZ g, 60, .inl (fun _ => 0))), (m13, .inl (gZ g, 60, .inl (fun _ => 0))), (m14, .inl (gI g, 60, .inl (fun _ => 0))), (m15, .inl (gI g, 60, .inl (fun _ => 0)))] H := hP
  have hD : va_D A [(b, .inr (2, [.int 1, .ref m5, .ref m6, .ref m7, .ref m8, .ref m9, .ref m10, .ref m11, .ref m12, .ref m13, .ref m14, .ref m15, .int 0])), (m5, .inl (gZ g, 60, .inl (fun _ => 0))), (m6, .inl (gI g, 60, .inl (upd (fun _ => 0) 0 50))), (m7, .inl (gI g, 60, .inl (fun _ => 0))), (m8, .inl (gI g, 60, .inl (fun _ => 0))), (m9, .inl (gI g, 60, .inl (fun _ => 0))), (m10, .inl (gI g, 720, .inl (fun _ => 0))), (m11, .inl (gZ g, 60, .inl (fun _ => 0))), (m12, .inl (gZ g, 60, .inl (fun _ => 0))), (m13, .inl (gZ g, 60, .inl (fun _ => 0))), (m14, .inl (gI g, 60, .inl (fun _ => 0))), (m15, .inl (gI g, 60, .inl (fun _ => 0)))] := hD
  refine lv_aload_n C.1 C.2.1 d_M_init_106 rfl (lv_at hl 0 rfl) ?_
  refine va_get (ci := 2) (v := .ref m7) (C := R_M) (T := F_M) (N := 13) C.1 C.2.1 C.ts (fun w hw => TG_TA w (i_M w hw)) C.2.2.2.1 C.K hP 0 rfl rfl 3 (by decide) (C.w wf_M_21) (fun _ h9 => h9) rfl d_M_init_107 ?_
  refine lv_iconst (v := 0) C.1 C.2.1 d_M_init_110 (by decide) ?_
  refine lv_bipush (v := 50) C.1 C.2.1 d_M_init_111 (by decide) ?_
  refine va_iast (n := 60) C.1 C.2.1 C.K hP hD hS 3 0 rfl rfl (vp_in_nI (n := 0) (by decide) (by decide)) d_M_init_113 (fun H locs hP hD hS => ?_)
  have hP : va_P g.1 classes [(b, .inr (2, [.int 1, .ref m5, .ref m6, .ref m7, .ref m8, .ref m9, .ref m10, .ref m11, .ref m12, .ref m13, .ref m14, .ref m15, .int 0])), (m5, .inl (gZ g, 60, .inl (fun _ => 0))), (m6, .inl (gI g, 60, .inl (upd (fun _ => 0) 0 50))), (m7, .inl (gI g, 60, .inl (upd (fun _ => 0) 0 50))), (m8, .inl (gI g, 60, .inl (fun _ => 0))), (m9, .inl (gI g, 60, .inl (fun _ => 0))), (m10, .inl (gI g, 720, .inl (fun _ => 0))), (m11, .inl (gZ g, 60, .inl (fun _ => 0))), (m12, .inl (gZ g, 60, .inl (fun _ => 0))), (m13, .inl (gZ g, 60, .inl (fun _ => 0))), (m14, .inl (gI g, 60, .inl (fun _ => 0))), (m15, .inl (gI g, 60, .inl (fun _ => 0)))] H := hP
  have hD : va_D A [(b, .inr (2, [.int 1, .ref m5, .ref m6, .ref m7, .ref m8, .ref m9, .ref m10, .ref m11, .ref m12, .ref m13, .ref m14, .ref m15, .int 0])), (m5, .inl (gZ g, 60, .inl (fun _ => 0))), (m6, .inl (gI g, 60, .inl (upd (fun _ => 0) 0 50))), (m7, .inl (gI g, 60, .inl (upd (fun _ => 0) 0 50))), (m8, .inl (gI g, 60, .inl (fun _ => 0))), (m9, .inl (gI g, 60, .inl (fun _ => 0))), (m10, .inl (gI g, 720, .inl (fun _ => 0))), (m11, .inl (gZ g, 60, .inl (fun _ => 0))), (m12, .inl (gZ g, 60, .inl (fun _ => 0))), (m13, .inl (gZ g, 60, .inl (fun _ => 0))), (m14, .inl (gI g, 60, .inl (fun _ => 0))), (m15, .inl (gI g, 60, .inl (fun _ => 0)))] := hD
  exact M_vret C hr d_M_init_114 hS ⟨fun k => if k = 5 then m5 else if k = 6 then m6 else if k = 7 then m7 else if k = 8 then m8 else if k = 9 then m9 else if k = 10 then m10 else if k = 11 then m11 else if k = 12 then m12 else if k = 13 then m13 else if k = 14 then m14 else m15, hP, by rw [hAe]; exact hD⟩
end
section
-- ===== printed by gen/w18.py: the law, operation by operation =====
section VL
variable {l : Launch} {R : Room} {args : Array Value} {M : MT} {g : Gh} {own : String} {cc : ByteArray} {nL : Nat} {Q : State → Prop} {cells slots : Nat} {h : Pic} {pc : Nat} {lv lv' : List (Nat × Value)} {st : List Value} {b L : Nat} {xs : Nat → Int32}
theorem nW (hg : gOk g) (hbl : b < (gH g).size) : ¬ gW g b := fun ⟨k, hk, e⟩ => by
  have := hg.2 k hk
  omega
theorem V_sld (C : Cx args M g own cc nL) (hX : va_X b L xs (mS M) (gH g)) (hbl : b < (gH g).size) {x : Int32} (j : Nat) (hx : x = nI j) (hj : j < L) (hL : L ≤ 2048) (d : decode cc pc = .ok (.iaload, 1)) (k : V l R args M g nL Q cells slots h (pc + 1) lv (.int (xs j) :: st)) : V l R args M g nL Q cells slots h pc lv (.int x :: .ref b :: st) := by
  intro H locs la hP hS hl
  subst hx
  refine va_sld C.1 C.2.1 hX hbl (nW C.ok hbl) hS (vp_in_nI hj (by omega)) d ?_
  rw [nI_clamp (by omega)]
  exact k H locs la hP hS hl
theorem V_slen (C : Cx args M g own cc nL) (hX : va_X b L xs (mS M) (gH g)) (hbl : b < (gH g).size) (d : decode cc pc = .ok (.arraylength, 1)) (k : V l R args M g nL Q cells slots h (pc + 1) lv (.int (nI L) :: st)) : V l R args M g nL Q cells slots h pc lv (.ref b :: st) :=
  fun H locs la hP hS hl => va_slen C.1 C.2.1 hX hbl (nW C.ok hbl) hS d (k H locs la hP hS hl)
theorem V_tsw (C : Cx args M g own b_L_law nL) {x : Int32} (ko : V l R args M g nL Q cells slots h 613 lv st) (k0 : V l R args M g nL Q cells slots h 92 lv st) (k1 : V l R args M g nL Q cells slots h 128 lv st) (k2 : V l R args M g nL Q cells slots h 188 lv st) (k3 : V l R args M g nL Q cells slots h 248 lv st) (k4 : V l R args M g nL Q cells slots h 308 lv st) (k5 : V l R args M g nL Q cells slots h 376 lv st) (k6 : V l R args M g nL Q cells slots h 389 lv st) (k7 : V l R args M g nL Q cells slots h 445 lv st) (k8 : V l R args M g nL Q cells slots h 501 lv st) (k9 : V l R args M g nL Q cells slots h 557 lv st) : V l R args M g nL Q cells slots h 39 lv (.int x :: st) := by
  intro H locs la hP hS hl
  by_cases hq : x.toInt < 0 ∨ 9 < x.toInt
  · exact lv_tableOut (tgt := 613) C.1 C.2.1 d_L_law_39 hq (by decide) (ko H locs la hP hS hl)
  · have h1 : ¬ x.toInt < 0 := by omega
    have h2 : ¬ 9 < x.toInt := by omega
    rcases (show x.toInt = 0 ∨ x.toInt = 1 ∨ x.toInt = 2 ∨ x.toInt = 3 ∨ x.toInt = 4 ∨ x.toInt = 5 ∨ x.toInt = 6 ∨ x.toInt = 7 ∨ x.toInt = 8 ∨ x.toInt = 9 by omega) with e | e | e | e | e | e | e | e | e | e
    · exact lv_tableIn (off := 53) (tgt := 92) C.1 C.2.1 d_L_law_39 h1 h2 (by rw [e]; rfl) (by decide) (k0 H locs la hP hS hl)
    · exact lv_tableIn (off := 89) (tgt := 128) C.1 C.2.1 d_L_law_39 h1 h2 (by rw [e]; rfl) (by decide) (k1 H locs la hP hS hl)
    · exact lv_tableIn (off := 149) (tgt := 188) C.1 C.2.1 d_L_law_39 h1 h2 (by rw [e]; rfl) (by decide) (k2 H locs la hP hS hl)
    · exact lv_tableIn (off := 209) (tgt := 248) C.1 C.2.1 d_L_law_39 h1 h2 (by rw [e]; rfl) (by decide) (k3 H locs la hP hS hl)
    · exact lv_tableIn (off := 269) (tgt := 308) C.1 C.2.1 d_L_law_39 h1 h2 (by rw [e]; rfl) (by decide) (k4 H locs la hP hS hl)
    · exact lv_tableIn (off := 337) (tgt := 376) C.1 C.2.1 d_L_law_39 h1 h2 (by rw [e]; rfl) (by decide) (k5 H locs la hP hS hl)
    · exact lv_tableIn (off := 350) (tgt := 389) C.1 C.2.1 d_L_law_39 h1 h2 (by rw [e]; rfl) (by decide) (k6 H locs la hP hS hl)
    · exact lv_tableIn (off := 406) (tgt := 445) C.1 C.2.1 d_L_law_39 h1 h2 (by rw [e]; rfl) (by decide) (k7 H locs la hP hS hl)
    · exact lv_tableIn (off := 462) (tgt := 501) C.1 C.2.1 d_L_law_39 h1 h2 (by rw [e]; rfl) (by decide) (k8 H locs la hP hS hl)
    · exact lv_tableIn (off := 518) (tgt := 557) C.1 C.2.1 d_L_law_39 h1 h2 (by rw [e]; rfl) (by decide) (k9 H locs la hP hS hl)
end VL
theorem cmp_same (x : Int64) : lg_cmp x x = 0 := by
  unfold lg_cmp
  rw [if_neg (Int64.lt_irrefl (a := x)), if_pos rfl]
/-- both sides hold one good graph -/
def Bo (h : Pic) : Prop := ∃ G, Good G ∧ InvC G h ∧ RepM G h
theorem j_states {G : Gr} {h1 h2 : Pic} {x k : Int32} (hG : Good G) (hp : (k = 0 ∧ ∃ m, 1 ≤ m ∧ m ≤ 60 ∧ x = nI m ∧ InvC (gStates G m) h1) ∨ (k = 1 ∧ ¬ (1 ≤ x ∧ x ≤ 60) ∧ InvC G h1)) (hX : SameX h1 h2) (hq : (h2 4 12 = 0 ∧ ∃ m, 1 ≤ m ∧ m ≤ 60 ∧ x = nI m ∧ RepM (gStates G m) h2) ∨ (h2 4 12 = 1 ∧ ¬ (1 ≤ x ∧ x ≤ 60) ∧ RepM G h2)) : h2 4 12 = k ∧ Bo h2 := by
  have ok : ∀ m : Nat, 1 ≤ m → m ≤ 60 → x = nI m → (1 ≤ x ∧ x ≤ 60) := fun m h1 h2 e => by
    rw [e]
    exact ⟨nI_le (a := 1) h1 (by omega), nI_le (b := 60) h2 (by omega)⟩
  rcases hp with ⟨rfl, m, m1, m2, m3, hI⟩ | ⟨rfl, hno, hI⟩ <;> rcases hq with ⟨e, m', n1, n2, n3, hM⟩ | ⟨e, hno', hM⟩
  · have em : m = m' := (nI_eq (by omega) (by omega)).mp (m3.symm.trans n3)
    subst em
    exact ⟨e, _, good_states m1 m2, hI.same m2 hX.c, hM⟩
  · exact absurd (ok m m1 m2 m3) hno'
  · exact absurd (ok m' n1 n2 n3) hno
  · exact ⟨e, G, hG, hI.same hG.2.1 hX.c, hM⟩
theorem j_end {G : Gr} {h1 h2 : Pic} {x k : Int32} {ok : Prop} {F : Nat → Gr} (hG : Good G) (hF : ok → ∀ u, u < Gn G → Good (F u)) (hp : (k = 0 ∧ ∃ u, u < Gn G ∧ x = nI u ∧ ok ∧ InvC (F u) h1) ∨ (k = 1 ∧ (¬ ∃ u, u < Gn G ∧ x = nI u) ∧ InvC G h1) ∨ (k = 2 ∧ (∃ u, u < Gn G ∧ x = nI u) ∧ ¬ ok ∧ InvC G h1)) (hX : SameX h1 h2)
    (hq : (h2 4 12 = 0 ∧ ∃ u, u < Gn G ∧ x = nI u ∧ ok ∧ RepM (F u) h2) ∨ (h2 4 12 = 1 ∧ (¬ ∃ u, u < Gn G ∧ x = nI u) ∧ RepM G h2) ∨ (h2 4 12 = 2 ∧ (∃ u, u < Gn G ∧ x = nI u) ∧ ¬ ok ∧ RepM G h2)) : h2 4 12 = k ∧ Bo h2 := by
  have hn := hG.2.1
  rcases hp with ⟨rfl, u, u1, u2, u3, hI⟩ | ⟨rfl, hno, hI⟩ | ⟨rfl, hy, hno, hI⟩ <;> rcases hq with ⟨e, v, v1, v2, v3, hM⟩ | ⟨e, hno', hM⟩ | ⟨e, hy', hno', hM⟩
  · have em : u = v := (nI_eq (by omega) (by omega)).mp (u2.symm.trans v2)
    subst em
    exact ⟨e, _, hF u3 u u1, hI.same (hF u3 u u1).2.1 hX.c, hM⟩
  · exact absurd ⟨u, u1, u2⟩ hno'
  · exact absurd u3 hno'
  · exact absurd ⟨v, v1, v2⟩ hno
  · exact ⟨e, G, hG, hI.same hn hX.c, hM⟩
  · exact absurd hy' hno
  · exact absurd v3 hno
  · exact absurd hy hno'
  · exact ⟨e, G, hG, hI.same hn hX.c, hM⟩
theorem j_link {G : Gr} {h1 h2 : Pic} {x y z k : Int32} (hG : Good G) (hp : (k = 0 ∧ ∃ u j t, u < Gn G ∧ x = nI u ∧ j < jt G u ∧ y = nI j ∧ t < Gn G ∧ z = nI t ∧ InvC (gLink G u j t) h1) ∨ (k = 1 ∧ (¬ ∃ u j t, u < Gn G ∧ x = nI u ∧ j < jt G u ∧ y = nI j ∧ t < Gn G ∧ z = nI t) ∧ InvC G h1)) (hX : SameX h1 h2)
    (hq : (h2 4 12 = 0 ∧ ∃ u j t, u < Gn G ∧ x = nI u ∧ j < jt G u ∧ y = nI j ∧ t < Gn G ∧ z = nI t ∧ RepM (gLink G u j t) h2) ∨ (h2 4 12 = 1 ∧ (¬ ∃ u j t, u < Gn G ∧ x = nI u ∧ j < jt G u ∧ y = nI j ∧ t < Gn G ∧ z = nI t) ∧ RepM G h2)) : h2 4 12 = k ∧ Bo h2 := by
  have hn := hG.2.1
  rcases hp with ⟨rfl, u, j, t, u1, u2, u3, u4, u5, u6, hI⟩ | ⟨rfl, hno, hI⟩ <;> rcases hq with ⟨e, v, i, w, v1, v2, v3, v4, v5, v6, hM⟩ | ⟨e, hno', hM⟩
  · have em : u = v := (nI_eq (by omega) (by omega)).mp (u2.symm.trans v2)
    subst em
    have z12 := jt_le hG u1
    have ej : j = i := (nI_eq (by omega) (by omega)).mp (u4.symm.trans v4)
    have et : t = w := (nI_eq (by omega) (by omega)).mp (u6.symm.trans v6)
    subst ej; subst et
    exact ⟨e, _, good_link hG u5, hI.same (good_link hG u5 (u := u) (j := j)).2.1 hX.c, hM⟩
  · exact absurd ⟨u, j, t, u1, u2, u3, u4, u5, u6⟩ hno'
  · exact absurd ⟨v, i, w, v1, v2, v3, v4, v5, v6⟩ hno
  · exact ⟨e, G, hG, hI.same hn hX.c, hM⟩
theorem j_next {G : Gr} {h1 h2 : Pic} {x y k v : Int32} (hG : Good G) (hp : (k = 0 ∧ ∃ u j, u < Gn G ∧ x = nI u ∧ j < jt G u ∧ y = nI j ∧ h1 16 0 = nI (Gx G u j)) ∨ (k = 1 ∧ ¬ ∃ u j, u < Gn G ∧ x = nI u ∧ j < jt G u ∧ y = nI j)) (hX : SameX h1 h2)
    (hq : (h2 4 12 = 0 ∧ ∃ u j, u < Gn G ∧ x = nI u ∧ j < jt G u ∧ y = nI j ∧ v = nI (Gx G u j)) ∨ (h2 4 12 = 1 ∧ ¬ ∃ u j, u < Gn G ∧ x = nI u ∧ j < jt G u ∧ y = nI j)) : h2 4 12 = k ∧ (k = 0 → h2 16 0 = v) := by
  have hn := hG.2.1
  rw [hX 16 (by omega)]
  rcases hp with ⟨rfl, u, j, u1, u2, u3, u4, u5⟩ | ⟨rfl, hno⟩ <;> rcases hq with ⟨e, v, i, v1, v2, v3, v4, v5⟩ | ⟨e, hno'⟩
  · have em : u = v := (nI_eq (by omega) (by omega)).mp (u2.symm.trans v2)
    subst em
    have z12 := jt_le hG u1
    have ej : j = i := (nI_eq (by omega) (by omega)).mp (u4.symm.trans v4)
    subst ej
    exact ⟨e, fun _ => by rw [u5, v5]⟩
  · exact absurd ⟨u, j, u1, u2, u3, u4⟩ hno'
  · exact absurd ⟨v, i, v1, v2, v3, v4⟩ hno
  · exact ⟨e, fun q => absurd q (by decide)⟩
theorem j_defect {G : Gr} {h1 h2 : Pic} {x k v : Int32} (hp : (k = 0 ∧ (x = 0 ∨ x = 1) ∧ ∃ d w, Def G d w ∧ h1 16 0 = if x = 0 then d else w) ∨ (k = 1 ∧ ¬ (x = 0 ∨ x = 1))) (hX : SameX h1 h2)
    (hq : (h2 4 12 = 0 ∧ (x = 0 ∨ x = 1) ∧ ∃ d w, Def G d w ∧ v = if x = 0 then d else w) ∨ (h2 4 12 = 1 ∧ ¬ (x = 0 ∨ x = 1))) : h2 4 12 = k ∧ (k = 0 → h2 16 0 = v) := by
  rw [hX 16 (by omega)]
  rcases hp with ⟨rfl, hx, d, w, hd, e1⟩ | ⟨rfl, hno⟩ <;> rcases hq with ⟨e, hx', d', w', hd', e2⟩ | ⟨e, hno'⟩
  · obtain ⟨a1, a2⟩ := hd.uniq hd'
    exact ⟨e, fun _ => by rw [e1, e2, a1, a2]⟩
  · exact absurd hx hno'
  · exact absurd hx' hno
  · exact ⟨e, fun q => absurd q (by decide)⟩
theorem j_ask {G : Gr} {h1 h2 : Pic} {x k v : Int32} {B : Nat → Int32 → Prop} (hG : Good G) (hB : ∀ u a a', B u a → B u a' → a = a') (hp : (k = 0 ∧ Sane G ∧ ∃ u, u < Gn G ∧ x = nI u ∧ Reach G 0 u ∧ B u (h1 16 0)) ∨ (k = 1 ∧ ¬ Sane G) ∨ (k = 2 ∧ Sane G ∧ ¬ ∃ u, u < Gn G ∧ x = nI u ∧ Reach G 0 u)) (hX : SameX h1 h2)
    (hq : (h2 4 12 = 0 ∧ Sane G ∧ ∃ u, u < Gn G ∧ x = nI u ∧ Reach G 0 u ∧ B u v) ∨ (h2 4 12 = 1 ∧ ¬ Sane G) ∨ (h2 4 12 = 2 ∧ Sane G ∧ ¬ ∃ u, u < Gn G ∧ x = nI u ∧ Reach G 0 u)) : h2 4 12 = k ∧ (k = 0 → h2 16 0 = v) := by
  have hn := hG.2.1
  rw [hX 16 (by omega)]
  rcases hp with ⟨rfl, hs, u, u1, u2, u3, u4⟩ | ⟨rfl, hs⟩ | ⟨rfl, hs, hno⟩ <;> rcases hq with ⟨e, hs', w, v1, v2, v3, v4⟩ | ⟨e, hs'⟩ | ⟨e, hs', hno'⟩
  · have em : u = w := (nI_eq (by omega) (by omega)).mp (u2.symm.trans v2)
    subst em
    exact ⟨e, fun _ => hB u _ _ u4 v4⟩
  · exact absurd hs hs'
  · exact absurd ⟨u, u1, u2, u3⟩ hno'
  · exact absurd hs' hs
  · exact ⟨e, fun q => absurd q (by decide)⟩
  · exact absurd hs' hs
  · exact absurd ⟨w, v1, v2, v3⟩ hno
  · exact absurd hs hs'
  · exact ⟨e, fun q => absurd q (by decide)⟩
set_option maxHeartbeats 4000000 in
theorem op_states {l : Launch} {R : Room} {args : Array Value} {M : MT} {g : Gh} {Q : State → Prop} {cells slots : Nat} {b L : Nat} {xs : Nat → Int32} (C : Cx args M g "GameGraphLaw" b_L_law 7) (E : gOk g ∧ l.stackTraces = false) (hX : va_X b L xs (mS M) (gH g)) (hbl : b < (gH g).size) (hL : L ≤ 2048) (hRf : 100 ≤ R.frames ∧ 5000 ≤ R.locals) (hc : cells + 2 ≤ R.cells ∧ slots + 12 ≤ R.slots) {i : Nat} (hi : i + 4 ≤ L) {h : Pic} {G : Gr} (hG : Good G) (hI : InvC G h) (hM : RepM G h) (k : ∀ (h' : Pic) (c' s' : Nat), c' ≤ cells + 2 → s' ≤ slots + 12 → Bo h' → V l R args M g 7 Q c' s' h' 613 [(0, .ref b), (1, .ref (gA g 0)), (2, .ref (gA g 4)), (3, .ref (gA g 16)), (4, .int (nI i))] []) : V l R args M g 7 Q cells slots h 92 [(0, .ref b), (1, .ref (gA g 0)), (2, .ref (gA g 4)), (3, .ref (gA g 16)), (4, .int (nI i))] [] := by
  have hn := hG.2.1
  refine V_aload_n C d_L_law_92 rfl ?_
  refine V_aload_n C d_L_law_93 rfl ?_
  refine V_iload C d_L_law_94 rfl ?_
  refine V_iconst (v := 1) C d_L_law_96 (by decide) ?_
  refine V_iadd C d_L_law_97 ?_
  refine V_topi (nI (i + 1)) (nI_add i 1) ?_
  refine V_sld C hX hbl (i + 1) rfl (by omega) hL d_L_law_98 ?_
  refine V_callS C (As := [.ref (gA g 0), .int (xs (i + 1))]) (st := []) (c_L_states E G h hG hI (xs (i + 1))) wc_L_states (fun _ _ => codeIsW) wz_L wl_L_50 wt_L_states ⟨by decide, by decide⟩ rfl ⟨Nat.le_trans (Nat.le_of_ble_eq_true rfl) hRf.1, Nat.le_trans (Nat.le_of_ble_eq_true rfl) hRf.2⟩ hc (Nat.le_of_ble_eq_true rfl) d_L_law_99 (fun r h1 hp => ?_) (fun X h1 hp => hp.elim)
  obtain ⟨kc, rfl, hS, hp⟩ := hp
  have hM1 := hM.same hS
  refine V_istore C [(0, .ref b), (1, .ref (gA g 0)), (2, .ref (gA g 4)), (3, .ref (gA g 16)), (4, .int (nI i)), (5, .int kc)] d_L_law_102 (by decide) rfl rfl ?_
  refine V_aload_n C d_L_law_104 rfl ?_
  refine V_aload_n C d_L_law_105 rfl ?_
  refine V_iload C d_L_law_106 rfl ?_
  refine V_iconst (v := 1) C d_L_law_108 (by decide) ?_
  refine V_iadd C d_L_law_109 ?_
  refine V_topi (nI (i + 1)) (nI_add i 1) ?_
  refine V_sld C hX hbl (i + 1) rfl (by omega) hL d_L_law_110 ?_
  refine V_callV C "GameGraphModel" (As := [.int (xs (i + 1))]) (st := []) (c_M_states E G hG h1 hM1 (xs (i + 1))) wc_M_states (fun _ _ => codeIs) wz_M wl_L_55 wi_M_states ws_M_states ⟨by decide, by decide⟩ rfl recvM ⟨Nat.le_trans (Nat.le_of_ble_eq_true rfl) hRf.1, Nat.le_trans (Nat.le_of_ble_eq_true rfl) hRf.2⟩ hc (Nat.le_of_ble_eq_true rfl) d_L_law_111 (fun r h2 hq => ?_) (fun X h1 hp => hp.elim)
  obtain ⟨rfl, hX2, hq⟩ := hq
  refine V_aload_n C d_L_law_114 rfl ?_
  refine V_callV C "GameGraphModel" (As := []) (st := []) (c_M_thrown E h2) wc_M_thrown (fun _ _ => codeIs) wz_M wl_L_56 wi_M_thrown ws_M_thrown ⟨by decide, by decide⟩ rfl recvM ⟨Nat.le_trans (Nat.le_of_ble_eq_true rfl) hRf.1, Nat.le_trans (Nat.le_of_ble_eq_true rfl) hRf.2⟩ hc (Nat.le_of_ble_eq_true rfl) d_L_law_115 (fun r h9 hp9 => ?_) (fun X h1 hp => hp.elim)
  obtain ⟨e9, rfl⟩ := hp9
  rw [e9]
  obtain ⟨ek, hBo⟩ := j_states hG hp hX2 hq
  refine V_iload C d_L_law_118 rfl ?_
  refine V_icmp_eq C 125 d_L_law_120 (by decide) (fun cz => ?_) (fun cz => ?_)
  · refine V_goto C 613 d_L_law_125 (by decide) ?_
    refine V_lv [(0, .ref b), (1, .ref (gA g 0)), (2, .ref (gA g 4)), (3, .ref (gA g 16)), (4, .int (nI i))] rfl ?_
    exact k h2 _ _ (by show cells + 2 + 0 + 0 ≤ cells + 2; omega) (by show slots + 12 + 0 + 0 ≤ slots + 12; omega) hBo
  · exact absurd ek cz
set_option maxHeartbeats 4000000 in
theorem op_end {l : Launch} {R : Room} {args : Array Value} {M : MT} {g : Gh} {Q : State → Prop} {cells slots : Nat} {b L : Nat} {xs : Nat → Int32} (C : Cx args M g "GameGraphLaw" b_L_law 7) (E : gOk g ∧ l.stackTraces = false) (hX : va_X b L xs (mS M) (gH g)) (hbl : b < (gH g).size) (hL : L ≤ 2048) (hRf : 100 ≤ R.frames ∧ 5000 ≤ R.locals) (hc : cells + 2 ≤ R.cells ∧ slots + 12 ≤ R.slots) {i : Nat} (hi : i + 4 ≤ L) {h : Pic} {G : Gr} (hG : Good G) (hI : InvC G h) (hM : RepM G h) (k : ∀ (h' : Pic) (c' s' : Nat), c' ≤ cells + 2 → s' ≤ slots + 12 → Bo h' → V l R args M g 7 Q c' s' h' 613 [(0, .ref b), (1, .ref (gA g 0)), (2, .ref (gA g 4)), (3, .ref (gA g 16)), (4, .int (nI i))] []) : V l R args M g 7 Q cells slots h 128 [(0, .ref b), (1, .ref (gA g 0)), (2, .ref (gA g 4)), (3, .ref (gA g 16)), (4, .int (nI i))] [] := by
  have hn := hG.2.1
  refine V_aload_n C d_L_law_128 rfl ?_
  refine V_aload_n C d_L_law_129 rfl ?_
  refine V_iload C d_L_law_130 rfl ?_
  refine V_iconst (v := 1) C d_L_law_132 (by decide) ?_
  refine V_iadd C d_L_law_133 ?_
  refine V_topi (nI (i + 1)) (nI_add i 1) ?_
  refine V_sld C hX hbl (i + 1) rfl (by omega) hL d_L_law_134 ?_
  refine V_aload_n C d_L_law_135 rfl ?_
  refine V_iload C d_L_law_136 rfl ?_
  refine V_iconst (v := 2) C d_L_law_138 (by decide) ?_
  refine V_iadd C d_L_law_139 ?_
  refine V_topi (nI (i + 2)) (nI_add i 2) ?_
  refine V_sld C hX hbl (i + 2) rfl (by omega) hL d_L_law_140 ?_
  refine V_aload_n C d_L_law_141 rfl ?_
  refine V_iload C d_L_law_142 rfl ?_
  refine V_iconst (v := 3) C d_L_law_144 (by decide) ?_
  refine V_iadd C d_L_law_145 ?_
  refine V_topi (nI (i + 3)) (nI_add i 3) ?_
  refine V_sld C hX hbl (i + 3) rfl (by omega) hL d_L_law_146 ?_
  refine V_callS C (As := [.ref (gA g 0), .int (xs (i + 1)), .int (xs (i + 2)), .int (xs (i + 3))]) (st := []) (c_L_end E G h hG hI (xs (i + 1)) (xs (i + 2)) (xs (i + 3))) wc_L_end (fun _ _ => codeIsW) wz_L wl_L_60 wt_L_end ⟨by decide, by decide⟩ rfl ⟨Nat.le_trans (Nat.le_of_ble_eq_true rfl) hRf.1, Nat.le_trans (Nat.le_of_ble_eq_true rfl) hRf.2⟩ hc (Nat.le_of_ble_eq_true rfl) d_L_law_147 (fun r h1 hp => ?_) (fun X h1 hp => hp.elim)
  obtain ⟨kc, rfl, hS, hp⟩ := hp
  have hM1 := hM.same hS
  refine V_istore C [(0, .ref b), (1, .ref (gA g 0)), (2, .ref (gA g 4)), (3, .ref (gA g 16)), (4, .int (nI i)), (5, .int kc)] d_L_law_150 (by decide) rfl rfl ?_
  refine V_aload_n C d_L_law_152 rfl ?_
  refine V_aload_n C d_L_law_153 rfl ?_
  refine V_iload C d_L_law_154 rfl ?_
  refine V_iconst (v := 1) C d_L_law_156 (by decide) ?_
  refine V_iadd C d_L_law_157 ?_
  refine V_topi (nI (i + 1)) (nI_add i 1) ?_
  refine V_sld C hX hbl (i + 1) rfl (by omega) hL d_L_law_158 ?_
  refine V_aload_n C d_L_law_159 rfl ?_
  refine V_iload C d_L_law_160 rfl ?_
  refine V_iconst (v := 2) C d_L_law_162 (by decide) ?_
  refine V_iadd C d_L_law_163 ?_
  refine V_topi (nI (i + 2)) (nI_add i 2) ?_
  refine V_sld C hX hbl (i + 2) rfl (by omega) hL d_L_law_164 ?_
  refine V_aload_n C d_L_law_165 rfl ?_
  refine V_iload C d_L_law_166 rfl ?_
  refine V_iconst (v := 3) C d_L_law_168 (by decide) ?_
  refine V_iadd C d_L_law_169 ?_
  refine V_topi (nI (i + 3)) (nI_add i 3) ?_
  refine V_sld C hX hbl (i + 3) rfl (by omega) hL d_L_law_170 ?_
  refine V_callV C "GameGraphModel" (As := [.int (xs (i + 1)), .int (xs (i + 2)), .int (xs (i + 3))]) (st := []) (c_M_end E G hG h1 hM1 (xs (i + 1)) (xs (i + 2)) (xs (i + 3))) wc_M_end (fun _ _ => codeIs) wz_M wl_L_63 wi_M_end ws_M_end ⟨by decide, by decide⟩ rfl recvM ⟨Nat.le_trans (Nat.le_of_ble_eq_true rfl) hRf.1, Nat.le_trans (Nat.le_of_ble_eq_true rfl) hRf.2⟩ hc (Nat.le_of_ble_eq_true rfl) d_L_law_171 (fun r h2 hq => ?_) (fun X h1 hp => hp.elim)
  obtain ⟨rfl, hX2, hq⟩ := hq
  refine V_aload_n C d_L_law_174 rfl ?_
  refine V_callV C "GameGraphModel" (As := []) (st := []) (c_M_thrown E h2) wc_M_thrown (fun _ _ => codeIs) wz_M wl_L_56 wi_M_thrown ws_M_thrown ⟨by decide, by decide⟩ rfl recvM ⟨Nat.le_trans (Nat.le_of_ble_eq_true rfl) hRf.1, Nat.le_trans (Nat.le_of_ble_eq_true rfl) hRf.2⟩ hc (Nat.le_of_ble_eq_true rfl) d_L_law_175 (fun r h9 hp9 => ?_) (fun X h1 hp => hp.elim)
  obtain ⟨e9, rfl⟩ := hp9
  rw [e9]
  obtain ⟨ek, hBo⟩ := j_end (ok := okEnd (xs (i + 2)) (xs (i + 3))) (F := fun u => gEnd G u (xs (i + 2)) (xs (i + 3))) hG (fun ho u hu => good_end hG ho) hp hX2 hq
  refine V_iload C d_L_law_178 rfl ?_
  refine V_icmp_eq C 185 d_L_law_180 (by decide) (fun cz => ?_) (fun cz => ?_)
  · refine V_goto C 613 d_L_law_185 (by decide) ?_
    refine V_lv [(0, .ref b), (1, .ref (gA g 0)), (2, .ref (gA g 4)), (3, .ref (gA g 16)), (4, .int (nI i))] rfl ?_
    exact k h2 _ _ (by show cells + 2 + 0 + 0 ≤ cells + 2; omega) (by show slots + 12 + 0 + 0 ≤ slots + 12; omega) hBo
  · exact absurd ek cz
set_option maxHeartbeats 4000000 in
theorem op_open {l : Launch} {R : Room} {args : Array Value} {M : MT} {g : Gh} {Q : State → Prop} {cells slots : Nat} {b L : Nat} {xs : Nat → Int32} (C : Cx args M g "GameGraphLaw" b_L_law 7) (E : gOk g ∧ l.stackTraces = false) (hX : va_X b L xs (mS M) (gH g)) (hbl : b < (gH g).size) (hL : L ≤ 2048) (hRf : 100 ≤ R.frames ∧ 5000 ≤ R.locals) (hc : cells + 2 ≤ R.cells ∧ slots + 12 ≤ R.slots) {i : Nat} (hi : i + 4 ≤ L) {h : Pic} {G : Gr} (hG : Good G) (hI : InvC G h) (hM : RepM G h) (k : ∀ (h' : Pic) (c' s' : Nat), c' ≤ cells + 2 → s' ≤ slots + 12 → Bo h' → V l R args M g 7 Q c' s' h' 613 [(0, .ref b), (1, .ref (gA g 0)), (2, .ref (gA g 4)), (3, .ref (gA g 16)), (4, .int (nI i))] []) : V l R args M g 7 Q cells slots h 188 [(0, .ref b), (1, .ref (gA g 0)), (2, .ref (gA g 4)), (3, .ref (gA g 16)), (4, .int (nI i))] [] := by
  have hn := hG.2.1
  refine V_aload_n C d_L_law_188 rfl ?_
  refine V_aload_n C d_L_law_189 rfl ?_
  refine V_iload C d_L_law_190 rfl ?_
  refine V_iconst (v := 1) C d_L_law_192 (by decide) ?_
  refine V_iadd C d_L_law_193 ?_
  refine V_topi (nI (i + 1)) (nI_add i 1) ?_
  refine V_sld C hX hbl (i + 1) rfl (by omega) hL d_L_law_194 ?_
  refine V_aload_n C d_L_law_195 rfl ?_
  refine V_iload C d_L_law_196 rfl ?_
  refine V_iconst (v := 2) C d_L_law_198 (by decide) ?_
  refine V_iadd C d_L_law_199 ?_
  refine V_topi (nI (i + 2)) (nI_add i 2) ?_
  refine V_sld C hX hbl (i + 2) rfl (by omega) hL d_L_law_200 ?_
  refine V_aload_n C d_L_law_201 rfl ?_
  refine V_iload C d_L_law_202 rfl ?_
  refine V_iconst (v := 3) C d_L_law_204 (by decide) ?_
  refine V_iadd C d_L_law_205 ?_
  refine V_topi (nI (i + 3)) (nI_add i 3) ?_
  refine V_sld C hX hbl (i + 3) rfl (by omega) hL d_L_law_206 ?_
  refine V_callS C (As := [.ref (gA g 0), .int (xs (i + 1)), .int (xs (i + 2)), .int (xs (i + 3))]) (st := []) (c_L_open E G h hG hI (xs (i + 1)) (xs (i + 2)) (xs (i + 3))) wc_L_open (fun _ _ => codeIsW) wz_L wl_L_64 wt_L_open ⟨by decide, by decide⟩ rfl ⟨Nat.le_trans (Nat.le_of_ble_eq_true rfl) hRf.1, Nat.le_trans (Nat.le_of_ble_eq_true rfl) hRf.2⟩ hc (Nat.le_of_ble_eq_true rfl) d_L_law_207 (fun r h1 hp => ?_) (fun X h1 hp => hp.elim)
  obtain ⟨kc, rfl, hS, hp⟩ := hp
  have hM1 := hM.same hS
  refine V_istore C [(0, .ref b), (1, .ref (gA g 0)), (2, .ref (gA g 4)), (3, .ref (gA g 16)), (4, .int (nI i)), (5, .int kc)] d_L_law_210 (by decide) rfl rfl ?_
  refine V_aload_n C d_L_law_212 rfl ?_
  refine V_aload_n C d_L_law_213 rfl ?_
  refine V_iload C d_L_law_214 rfl ?_
  refine V_iconst (v := 1) C d_L_law_216 (by decide) ?_
  refine V_iadd C d_L_law_217 ?_
  refine V_topi (nI (i + 1)) (nI_add i 1) ?_
  refine V_sld C hX hbl (i + 1) rfl (by omega) hL d_L_law_218 ?_
  refine V_aload_n C d_L_law_219 rfl ?_
  refine V_iload C d_L_law_220 rfl ?_
  refine V_iconst (v := 2) C d_L_law_222 (by decide) ?_
  refine V_iadd C d_L_law_223 ?_
  refine V_topi (nI (i + 2)) (nI_add i 2) ?_
  refine V_sld C hX hbl (i + 2) rfl (by omega) hL d_L_law_224 ?_
  refine V_aload_n C d_L_law_225 rfl ?_
  refine V_iload C d_L_law_226 rfl ?_
  refine V_iconst (v := 3) C d_L_law_228 (by decide) ?_
  refine V_iadd C d_L_law_229 ?_
  refine V_topi (nI (i + 3)) (nI_add i 3) ?_
  refine V_sld C hX hbl (i + 3) rfl (by omega) hL d_L_law_230 ?_
  refine V_callV C "GameGraphModel" (As := [.int (xs (i + 1)), .int (xs (i + 2)), .int (xs (i + 3))]) (st := []) (c_M_open E G hG h1 hM1 (xs (i + 1)) (xs (i + 2)) (xs (i + 3))) wc_M_open (fun _ _ => codeIs) wz_M wl_L_66 wi_M_open ws_M_open ⟨by decide, by decide⟩ rfl recvM ⟨Nat.le_trans (Nat.le_of_ble_eq_true rfl) hRf.1, Nat.le_trans (Nat.le_of_ble_eq_true rfl) hRf.2⟩ hc (Nat.le_of_ble_eq_true rfl) d_L_law_231 (fun r h2 hq => ?_) (fun X h1 hp => hp.elim)
  obtain ⟨rfl, hX2, hq⟩ := hq
  refine V_aload_n C d_L_law_234 rfl ?_
  refine V_callV C "GameGraphModel" (As := []) (st := []) (c_M_thrown E h2) wc_M_thrown (fun _ _ => codeIs) wz_M wl_L_56 wi_M_thrown ws_M_thrown ⟨by decide, by decide⟩ rfl recvM ⟨Nat.le_trans (Nat.le_of_ble_eq_true rfl) hRf.1, Nat.le_trans (Nat.le_of_ble_eq_true rfl) hRf.2⟩ hc (Nat.le_of_ble_eq_true rfl) d_L_law_235 (fun r h9 hp9 => ?_) (fun X h1 hp => hp.elim)
  obtain ⟨e9, rfl⟩ := hp9
  rw [e9]
  obtain ⟨ek, hBo⟩ := j_end (ok := okOpen (xs (i + 2)) (xs (i + 3))) (F := fun u => gOpen G u (xs (i + 2)) (xs (i + 3))) hG (fun ho u hu => good_open hG ho) hp hX2 hq
  refine V_iload C d_L_law_238 rfl ?_
  refine V_icmp_eq C 245 d_L_law_240 (by decide) (fun cz => ?_) (fun cz => ?_)
  · refine V_goto C 613 d_L_law_245 (by decide) ?_
    refine V_lv [(0, .ref b), (1, .ref (gA g 0)), (2, .ref (gA g 4)), (3, .ref (gA g 16)), (4, .int (nI i))] rfl ?_
    exact k h2 _ _ (by show cells + 2 + 0 + 0 ≤ cells + 2; omega) (by show slots + 12 + 0 + 0 ≤ slots + 12; omega) hBo
  · exact absurd ek cz
set_option maxHeartbeats 4000000 in
theorem op_link {l : Launch} {R : Room} {args : Array Value} {M : MT} {g : Gh} {Q : State → Prop} {cells slots : Nat} {b L : Nat} {xs : Nat → Int32} (C : Cx args M g "GameGraphLaw" b_L_law 7) (E : gOk g ∧ l.stackTraces = false) (hX : va_X b L xs (mS M) (gH g)) (hbl : b < (gH g).size) (hL : L ≤ 2048) (hRf : 100 ≤ R.frames ∧ 5000 ≤ R.locals) (hc : cells + 2 ≤ R.cells ∧ slots + 12 ≤ R.slots) {i : Nat} (hi : i + 4 ≤ L) {h : Pic} {G : Gr} (hG : Good G) (hI : InvC G h) (hM : RepM G h) (k : ∀ (h' : Pic) (c' s' : Nat), c' ≤ cells + 2 → s' ≤ slots + 12 → Bo h' → V l R args M g 7 Q c' s' h' 613 [(0, .ref b), (1, .ref (gA g 0)), (2, .ref (gA g 4)), (3, .ref (gA g 16)), (4, .int (nI i))] []) : V l R args M g 7 Q cells slots h 248 [(0, .ref b), (1, .ref (gA g 0)), (2, .ref (gA g 4)), (3, .ref (gA g 16)), (4, .int (nI i))] [] := by
  have hn := hG.2.1
  refine V_aload_n C d_L_law_248 rfl ?_
  refine V_aload_n C d_L_law_249 rfl ?_
  refine V_iload C d_L_law_250 rfl ?_
  refine V_iconst (v := 1) C d_L_law_252 (by decide) ?_
  refine V_iadd C d_L_law_253 ?_
  refine V_topi (nI (i + 1)) (nI_add i 1) ?_
  refine V_sld C hX hbl (i + 1) rfl (by omega) hL d_L_law_254 ?_
  refine V_aload_n C d_L_law_255 rfl ?_
  refine V_iload C d_L_law_256 rfl ?_
  refine V_iconst (v := 2) C d_L_law_258 (by decide) ?_
  refine V_iadd C d_L_law_259 ?_
  refine V_topi (nI (i + 2)) (nI_add i 2) ?_
  refine V_sld C hX hbl (i + 2) rfl (by omega) hL d_L_law_260 ?_
  refine V_aload_n C d_L_law_261 rfl ?_
  refine V_iload C d_L_law_262 rfl ?_
  refine V_iconst (v := 3) C d_L_law_264 (by decide) ?_
  refine V_iadd C d_L_law_265 ?_
  refine V_topi (nI (i + 3)) (nI_add i 3) ?_
  refine V_sld C hX hbl (i + 3) rfl (by omega) hL d_L_law_266 ?_
  refine V_callS C (As := [.ref (gA g 0), .int (xs (i + 1)), .int (xs (i + 2)), .int (xs (i + 3))]) (st := []) (c_L_link E G h hG hI (xs (i + 1)) (xs (i + 2)) (xs (i + 3))) wc_L_link (fun _ _ => codeIsW) wz_L wl_L_67 wt_L_link ⟨by decide, by decide⟩ rfl ⟨Nat.le_trans (Nat.le_of_ble_eq_true rfl) hRf.1, Nat.le_trans (Nat.le_of_ble_eq_true rfl) hRf.2⟩ hc (Nat.le_of_ble_eq_true rfl) d_L_law_267 (fun r h1 hp => ?_) (fun X h1 hp => hp.elim)
  obtain ⟨kc, rfl, hS, hp⟩ := hp
  have hM1 := hM.same hS
  refine V_istore C [(0, .ref b), (1, .ref (gA g 0)), (2, .ref (gA g 4)), (3, .ref (gA g 16)), (4, .int (nI i)), (5, .int kc)] d_L_law_270 (by decide) rfl rfl ?_
  refine V_aload_n C d_L_law_272 rfl ?_
  refine V_aload_n C d_L_law_273 rfl ?_
  refine V_iload C d_L_law_274 rfl ?_
  refine V_iconst (v := 1) C d_L_law_276 (by decide) ?_
  refine V_iadd C d_L_law_277 ?_
  refine V_topi (nI (i + 1)) (nI_add i 1) ?_
  refine V_sld C hX hbl (i + 1) rfl (by omega) hL d_L_law_278 ?_
  refine V_aload_n C d_L_law_279 rfl ?_
  refine V_iload C d_L_law_280 rfl ?_
  refine V_iconst (v := 2) C d_L_law_282 (by decide) ?_
  refine V_iadd C d_L_law_283 ?_
  refine V_topi (nI (i + 2)) (nI_add i 2) ?_
  refine V_sld C hX hbl (i + 2) rfl (by omega) hL d_L_law_284 ?_
  refine V_aload_n C d_L_law_285 rfl ?_
  refine V_iload C d_L_law_286 rfl ?_
  refine V_iconst (v := 3) C d_L_law_288 (by decide) ?_
  refine V_iadd C d_L_law_289 ?_
  refine V_topi (nI (i + 3)) (nI_add i 3) ?_
  refine V_sld C hX hbl (i + 3) rfl (by omega) hL d_L_law_290 ?_
  refine V_callV C "GameGraphModel" (As := [.int (xs (i + 1)), .int (xs (i + 2)), .int (xs (i + 3))]) (st := []) (c_M_link E G hG h1 hM1 (xs (i + 1)) (xs (i + 2)) (xs (i + 3))) wc_M_link (fun _ _ => codeIs) wz_M wl_L_69 wi_M_link ws_M_link ⟨by decide, by decide⟩ rfl recvM ⟨Nat.le_trans (Nat.le_of_ble_eq_true rfl) hRf.1, Nat.le_trans (Nat.le_of_ble_eq_true rfl) hRf.2⟩ hc (Nat.le_of_ble_eq_true rfl) d_L_law_291 (fun r h2 hq => ?_) (fun X h1 hp => hp.elim)
  obtain ⟨rfl, hX2, hq⟩ := hq
  refine V_aload_n C d_L_law_294 rfl ?_
  refine V_callV C "GameGraphModel" (As := []) (st := []) (c_M_thrown E h2) wc_M_thrown (fun _ _ => codeIs) wz_M wl_L_56 wi_M_thrown ws_M_thrown ⟨by decide, by decide⟩ rfl recvM ⟨Nat.le_trans (Nat.le_of_ble_eq_true rfl) hRf.1, Nat.le_trans (Nat.le_of_ble_eq_true rfl) hRf.2⟩ hc (Nat.le_of_ble_eq_true rfl) d_L_law_295 (fun r h9 hp9 => ?_) (fun X h1 hp => hp.elim)
  obtain ⟨e9, rfl⟩ := hp9
  rw [e9]
  obtain ⟨ek, hBo⟩ := j_link hG hp hX2 hq
  refine V_iload C d_L_law_298 rfl ?_
  refine V_icmp_eq C 305 d_L_law_300 (by decide) (fun cz => ?_) (fun cz => ?_)
  · refine V_goto C 613 d_L_law_305 (by decide) ?_
    refine V_lv [(0, .ref b), (1, .ref (gA g 0)), (2, .ref (gA g 4)), (3, .ref (gA g 16)), (4, .int (nI i))] rfl ?_
    exact k h2 _ _ (by show cells + 2 + 0 + 0 ≤ cells + 2; omega) (by show slots + 12 + 0 + 0 ≤ slots + 12; omega) hBo
  · exact absurd ek cz
set_option maxHeartbeats 4000000 in
theorem op_next {l : Launch} {R : Room} {args : Array Value} {M : MT} {g : Gh} {Q : State → Prop} {cells slots : Nat} {b L : Nat} {xs : Nat → Int32} (C : Cx args M g "GameGraphLaw" b_L_law 7) (E : gOk g ∧ l.stackTraces = false) (hX : va_X b L xs (mS M) (gH g)) (hbl : b < (gH g).size) (hL : L ≤ 2048) (hRf : 100 ≤ R.frames ∧ 5000 ≤ R.locals) (hc : cells + 2 ≤ R.cells ∧ slots + 12 ≤ R.slots) {i : Nat} (hi : i + 4 ≤ L) {h : Pic} {G : Gr} (hG : Good G) (hI : InvC G h) (hM : RepM G h) (k : ∀ (h' : Pic) (c' s' : Nat), c' ≤ cells + 2 → s' ≤ slots + 12 → Bo h' → V l R args M g 7 Q c' s' h' 613 [(0, .ref b), (1, .ref (gA g 0)), (2, .ref (gA g 4)), (3, .ref (gA g 16)), (4, .int (nI i))] []) : V l R args M g 7 Q cells slots h 308 [(0, .ref b), (1, .ref (gA g 0)), (2, .ref (gA g 4)), (3, .ref (gA g 16)), (4, .int (nI i))] [] := by
  have hn := hG.2.1
  refine V_aload_n C d_L_law_308 rfl ?_
  refine V_aload_n C d_L_law_309 rfl ?_
  refine V_iload C d_L_law_310 rfl ?_
  refine V_iconst (v := 1) C d_L_law_312 (by decide) ?_
  refine V_iadd C d_L_law_313 ?_
  refine V_topi (nI (i + 1)) (nI_add i 1) ?_
  refine V_sld C hX hbl (i + 1) rfl (by omega) hL d_L_law_314 ?_
  refine V_aload_n C d_L_law_315 rfl ?_
  refine V_iload C d_L_law_316 rfl ?_
  refine V_iconst (v := 2) C d_L_law_318 (by decide) ?_
  refine V_iadd C d_L_law_319 ?_
  refine V_topi (nI (i + 2)) (nI_add i 2) ?_
  refine V_sld C hX hbl (i + 2) rfl (by omega) hL d_L_law_320 ?_
  refine V_aload_n C d_L_law_321 rfl ?_
  refine V_callS C (As := [.ref (gA g 0), .int (xs (i + 1)), .int (xs (i + 2)), .ref (gA g 16)]) (st := []) (c_L_next E G h hG hI (xs (i + 1)) (xs (i + 2))) wc_L_next (fun _ _ => codeIsW) wz_L wl_L_70 wt_L_next ⟨by decide, by decide⟩ rfl ⟨Nat.le_trans (Nat.le_of_ble_eq_true rfl) hRf.1, Nat.le_trans (Nat.le_of_ble_eq_true rfl) hRf.2⟩ hc (Nat.le_of_ble_eq_true rfl) d_L_law_322 (fun r h1 hp => ?_) (fun X h1 hp => hp.elim)
  obtain ⟨kc, rfl, hS, hI1, hp⟩ := hp
  have hM1 := hM.sameN hn hS
  refine V_istore C [(0, .ref b), (1, .ref (gA g 0)), (2, .ref (gA g 4)), (3, .ref (gA g 16)), (4, .int (nI i)), (5, .int kc)] d_L_law_325 (by decide) rfl rfl ?_
  refine V_aload_n C d_L_law_327 rfl ?_
  refine V_aload_n C d_L_law_328 rfl ?_
  refine V_iload C d_L_law_329 rfl ?_
  refine V_iconst (v := 1) C d_L_law_331 (by decide) ?_
  refine V_iadd C d_L_law_332 ?_
  refine V_topi (nI (i + 1)) (nI_add i 1) ?_
  refine V_sld C hX hbl (i + 1) rfl (by omega) hL d_L_law_333 ?_
  refine V_aload_n C d_L_law_334 rfl ?_
  refine V_iload C d_L_law_335 rfl ?_
  refine V_iconst (v := 2) C d_L_law_337 (by decide) ?_
  refine V_iadd C d_L_law_338 ?_
  refine V_topi (nI (i + 2)) (nI_add i 2) ?_
  refine V_sld C hX hbl (i + 2) rfl (by omega) hL d_L_law_339 ?_
  refine V_callV C "GameGraphModel" (As := [.int (xs (i + 1)), .int (xs (i + 2))]) (st := []) (c_M_next E G hG h1 hM1 (xs (i + 1)) (xs (i + 2))) wc_M_next (fun _ _ => codeIs) wz_M wl_L_73 wi_M_next ws_M_next ⟨by decide, by decide⟩ rfl recvM ⟨Nat.le_trans (Nat.le_of_ble_eq_true rfl) hRf.1, Nat.le_trans (Nat.le_of_ble_eq_true rfl) hRf.2⟩ hc (Nat.le_of_ble_eq_true rfl) d_L_law_340 (fun r h2 hq => ?_) (fun X h1 hp => hp.elim)
  obtain ⟨hX2, hM2, v, rfl, hq⟩ := hq
  have hBo : Bo h2 := ⟨G, hG, hI1.same hn hX2.c, hM2⟩
  refine V_istore C [(0, .ref b), (1, .ref (gA g 0)), (2, .ref (gA g 4)), (3, .ref (gA g 16)), (4, .int (nI i)), (5, .int kc), (6, .int v)] d_L_law_343 (by decide) rfl rfl ?_
  refine V_aload_n C d_L_law_345 rfl ?_
  refine V_callV C "GameGraphModel" (As := []) (st := []) (c_M_thrown E h2) wc_M_thrown (fun _ _ => codeIs) wz_M wl_L_56 wi_M_thrown ws_M_thrown ⟨by decide, by decide⟩ rfl recvM ⟨Nat.le_trans (Nat.le_of_ble_eq_true rfl) hRf.1, Nat.le_trans (Nat.le_of_ble_eq_true rfl) hRf.2⟩ hc (Nat.le_of_ble_eq_true rfl) d_L_law_346 (fun r h9 hp9 => ?_) (fun X h1 hp => hp.elim)
  obtain ⟨e9, rfl⟩ := hp9
  rw [e9]
  obtain ⟨ek, eo⟩ := j_next hG hp hX2 hq
  refine V_iload C d_L_law_349 rfl ?_
  refine V_icmp_eq C 356 d_L_law_351 (by decide) (fun cz => ?_) (fun cz => ?_)
  · refine V_iload C d_L_law_356 rfl ?_
    refine V_if_ne C 373 d_L_law_358 (by decide) (fun c0 => ?_) (fun c0 => ?_)
    · refine V_goto C 613 d_L_law_373 (by decide) ?_
      refine V_lv [(0, .ref b), (1, .ref (gA g 0)), (2, .ref (gA g 4)), (3, .ref (gA g 16)), (4, .int (nI i))] rfl ?_
      exact k h2 _ _ (by show cells + 2 + 0 + 0 ≤ cells + 2; omega) (by show slots + 12 + 0 + 0 ≤ slots + 12; omega) hBo
    · refine V_aload_n C d_L_law_361 rfl ?_
      refine V_iconst (v := 0) C d_L_law_362 (by decide) ?_
      refine V_lald C d_L_law_363 ?_
      refine V_iload C d_L_law_364 rfl ?_
      refine V_i2l C d_L_law_366 ?_
      refine V_lcmp C d_L_law_367 ?_
      refine V_topi (0) (by rw [eo c0]; exact cmp_same _) ?_
      refine V_if_eq C 373 d_L_law_368 (by decide) (fun c5 => ?_) (fun c5 => ?_)
      · refine V_goto C 613 d_L_law_373 (by decide) ?_
        refine V_lv [(0, .ref b), (1, .ref (gA g 0)), (2, .ref (gA g 4)), (3, .ref (gA g 16)), (4, .int (nI i))] rfl ?_
        exact k h2 _ _ (by show cells + 2 + 0 + 0 ≤ cells + 2; omega) (by show slots + 12 + 0 + 0 ≤ slots + 12; omega) hBo
      · exact absurd rfl c5
  · exact absurd ek cz
set_option maxHeartbeats 4000000 in
theorem op_defect {l : Launch} {R : Room} {args : Array Value} {M : MT} {g : Gh} {Q : State → Prop} {cells slots : Nat} {b L : Nat} {xs : Nat → Int32} (C : Cx args M g "GameGraphLaw" b_L_law 7) (E : gOk g ∧ l.stackTraces = false) (hX : va_X b L xs (mS M) (gH g)) (hbl : b < (gH g).size) (hL : L ≤ 2048) (hRf : 100 ≤ R.frames ∧ 5000 ≤ R.locals) (hc : cells + 2 ≤ R.cells ∧ slots + 12 ≤ R.slots) {i : Nat} (hi : i + 4 ≤ L) {h : Pic} {G : Gr} (hG : Good G) (hI : InvC G h) (hM : RepM G h) (k : ∀ (h' : Pic) (c' s' : Nat), c' ≤ cells + 2 → s' ≤ slots + 12 → Bo h' → V l R args M g 7 Q c' s' h' 613 [(0, .ref b), (1, .ref (gA g 0)), (2, .ref (gA g 4)), (3, .ref (gA g 16)), (4, .int (nI i))] []) : V l R args M g 7 Q cells slots h 389 [(0, .ref b), (1, .ref (gA g 0)), (2, .ref (gA g 4)), (3, .ref (gA g 16)), (4, .int (nI i))] [] := by
  have hn := hG.2.1
  refine V_aload_n C d_L_law_389 rfl ?_
  refine V_aload_n C d_L_law_390 rfl ?_
  refine V_iload C d_L_law_391 rfl ?_
  refine V_iconst (v := 1) C d_L_law_393 (by decide) ?_
  refine V_iadd C d_L_law_394 ?_
  refine V_topi (nI (i + 1)) (nI_add i 1) ?_
  refine V_sld C hX hbl (i + 1) rfl (by omega) hL d_L_law_395 ?_
  refine V_aload_n C d_L_law_396 rfl ?_
  refine V_callS C (As := [.ref (gA g 0), .int (xs (i + 1)), .ref (gA g 16)]) (st := []) (c_L_defect E G h hG hI (xs (i + 1))) wc_L_defect (fun _ _ => codeIsW) wz_L wl_L_78 wt_L_defect ⟨by decide, by decide⟩ rfl ⟨Nat.le_trans (Nat.le_of_ble_eq_true rfl) hRf.1, Nat.le_trans (Nat.le_of_ble_eq_true rfl) hRf.2⟩ hc (Nat.le_of_ble_eq_true rfl) d_L_law_397 (fun r h1 hp => ?_) (fun X h1 hp => hp.elim)
  obtain ⟨kc, rfl, hS, hI1, hp⟩ := hp
  have hM1 := hM.sameN hn hS
  refine V_istore C [(0, .ref b), (1, .ref (gA g 0)), (2, .ref (gA g 4)), (3, .ref (gA g 16)), (4, .int (nI i)), (5, .int kc)] d_L_law_400 (by decide) rfl rfl ?_
  refine V_aload_n C d_L_law_402 rfl ?_
  refine V_aload_n C d_L_law_403 rfl ?_
  refine V_iload C d_L_law_404 rfl ?_
  refine V_iconst (v := 1) C d_L_law_406 (by decide) ?_
  refine V_iadd C d_L_law_407 ?_
  refine V_topi (nI (i + 1)) (nI_add i 1) ?_
  refine V_sld C hX hbl (i + 1) rfl (by omega) hL d_L_law_408 ?_
  refine V_callV C "GameGraphModel" (As := [.int (xs (i + 1))]) (st := []) (c_M_defect E G hG h1 hM1 (xs (i + 1))) wc_M_defect (fun _ _ => codeIs) wz_M wl_L_81 wi_M_defect ws_M_defect ⟨by decide, by decide⟩ rfl recvM ⟨Nat.le_trans (Nat.le_of_ble_eq_true rfl) hRf.1, Nat.le_trans (Nat.le_of_ble_eq_true rfl) hRf.2⟩ hc (Nat.le_of_ble_eq_true rfl) d_L_law_409 (fun r h2 hq => ?_) (fun X h1 hp => hp.elim)
  obtain ⟨hX2, hM2, v, rfl, hq⟩ := hq
  have hBo : Bo h2 := ⟨G, hG, hI1.same hn hX2.c, hM2⟩
  refine V_istore C [(0, .ref b), (1, .ref (gA g 0)), (2, .ref (gA g 4)), (3, .ref (gA g 16)), (4, .int (nI i)), (5, .int kc), (6, .int v)] d_L_law_412 (by decide) rfl rfl ?_
  refine V_aload_n C d_L_law_414 rfl ?_
  refine V_callV C "GameGraphModel" (As := []) (st := []) (c_M_thrown E h2) wc_M_thrown (fun _ _ => codeIs) wz_M wl_L_56 wi_M_thrown ws_M_thrown ⟨by decide, by decide⟩ rfl recvM ⟨Nat.le_trans (Nat.le_of_ble_eq_true rfl) hRf.1, Nat.le_trans (Nat.le_of_ble_eq_true rfl) hRf.2⟩ hc (Nat.le_of_ble_eq_true rfl) d_L_law_415 (fun r h9 hp9 => ?_) (fun X h1 hp => hp.elim)
  obtain ⟨e9, rfl⟩ := hp9
  rw [e9]
  obtain ⟨ek, eo⟩ := j_defect hp hX2 hq
  refine V_iload C d_L_law_418 rfl ?_
  refine V_icmp_eq C 425 d_L_law_420 (by decide) (fun cz => ?_) (fun cz => ?_)
  · refine V_iload C d_L_law_425 rfl ?_
    refine V_if_ne C 442 d_L_law_427 (by decide) (fun c0 => ?_) (fun c0 => ?_)
    · refine V_goto C 613 d_L_law_442 (by decide) ?_
      refine V_lv [(0, .ref b), (1, .ref (gA g 0)), (2, .ref (gA g 4)), (3, .ref (gA g 16)), (4, .int (nI i))] rfl ?_
      exact k h2 _ _ (by show cells + 2 + 0 + 0 ≤ cells + 2; omega) (by show slots + 12 + 0 + 0 ≤ slots + 12; omega) hBo
    · refine V_aload_n C d_L_law_430 rfl ?_
      refine V_iconst (v := 0) C d_L_law_431 (by decide) ?_
      refine V_lald C d_L_law_432 ?_
      refine V_iload C d_L_law_433 rfl ?_
      refine V_i2l C d_L_law_435 ?_
      refine V_lcmp C d_L_law_436 ?_
      refine V_topi (0) (by rw [eo c0]; exact cmp_same _) ?_
      refine V_if_eq C 442 d_L_law_437 (by decide) (fun c5 => ?_) (fun c5 => ?_)
      · refine V_goto C 613 d_L_law_442 (by decide) ?_
        refine V_lv [(0, .ref b), (1, .ref (gA g 0)), (2, .ref (gA g 4)), (3, .ref (gA g 16)), (4, .int (nI i))] rfl ?_
        exact k h2 _ _ (by show cells + 2 + 0 + 0 ≤ cells + 2; omega) (by show slots + 12 + 0 + 0 ≤ slots + 12; omega) hBo
      · exact absurd rfl c5
  · exact absurd ek cz
set_option maxHeartbeats 4000000 in
theorem op_value {l : Launch} {R : Room} {args : Array Value} {M : MT} {g : Gh} {Q : State → Prop} {cells slots : Nat} {b L : Nat} {xs : Nat → Int32} (C : Cx args M g "GameGraphLaw" b_L_law 7) (E : gOk g ∧ l.stackTraces = false) (hX : va_X b L xs (mS M) (gH g)) (hbl : b < (gH g).size) (hL : L ≤ 2048) (hRf : 100 ≤ R.frames ∧ 5000 ≤ R.locals) (hc : cells + 2 ≤ R.cells ∧ slots + 12 ≤ R.slots) {i : Nat} (hi : i + 4 ≤ L) {h : Pic} {G : Gr} (hG : Good G) (hI : InvC G h) (hM : RepM G h) (k : ∀ (h' : Pic) (c' s' : Nat), c' ≤ cells + 2 → s' ≤ slots + 12 → Bo h' → V l R args M g 7 Q c' s' h' 613 [(0, .ref b), (1, .ref (gA g 0)), (2, .ref (gA g 4)), (3, .ref (gA g 16)), (4, .int (nI i))] []) : V l R args M g 7 Q cells slots h 445 [(0, .ref b), (1, .ref (gA g 0)), (2, .ref (gA g 4)), (3, .ref (gA g 16)), (4, .int (nI i))] [] := by
  have hn := hG.2.1
  refine V_aload_n C d_L_law_445 rfl ?_
  refine V_aload_n C d_L_law_446 rfl ?_
  refine V_iload C d_L_law_447 rfl ?_
  refine V_iconst (v := 1) C d_L_law_449 (by decide) ?_
  refine V_iadd C d_L_law_450 ?_
  refine V_topi (nI (i + 1)) (nI_add i 1) ?_
  refine V_sld C hX hbl (i + 1) rfl (by omega) hL d_L_law_451 ?_
  refine V_aload_n C d_L_law_452 rfl ?_
  refine V_callS C (As := [.ref (gA g 0), .int (xs (i + 1)), .ref (gA g 16)]) (st := []) (c_L_value E G h hG hI (xs (i + 1))) wc_L_value (fun _ _ => codeIsW) wz_L wl_L_82 wt_L_value ⟨by decide, by decide⟩ rfl ⟨Nat.le_trans (Nat.le_of_ble_eq_true rfl) hRf.1, Nat.le_trans (Nat.le_of_ble_eq_true rfl) hRf.2⟩ hc (Nat.le_of_ble_eq_true rfl) d_L_law_453 (fun r h1 hp => ?_) (fun X h1 hp => hp.elim)
  obtain ⟨kc, rfl, hS, hI1, hp⟩ := hp
  have hM1 := hM.sameN hn hS
  refine V_istore C [(0, .ref b), (1, .ref (gA g 0)), (2, .ref (gA g 4)), (3, .ref (gA g 16)), (4, .int (nI i)), (5, .int kc)] d_L_law_456 (by decide) rfl rfl ?_
  refine V_aload_n C d_L_law_458 rfl ?_
  refine V_aload_n C d_L_law_459 rfl ?_
  refine V_iload C d_L_law_460 rfl ?_
  refine V_iconst (v := 1) C d_L_law_462 (by decide) ?_
  refine V_iadd C d_L_law_463 ?_
  refine V_topi (nI (i + 1)) (nI_add i 1) ?_
  refine V_sld C hX hbl (i + 1) rfl (by omega) hL d_L_law_464 ?_
  refine V_callV C "GameGraphModel" (As := [.int (xs (i + 1))]) (st := []) (c_M_value E G hG h1 hM1 (xs (i + 1))) wc_M_value (fun _ _ => codeIs) wz_M wl_L_84 wi_M_value ws_M_value ⟨by decide, by decide⟩ rfl recvM ⟨Nat.le_trans (Nat.le_of_ble_eq_true rfl) hRf.1, Nat.le_trans (Nat.le_of_ble_eq_true rfl) hRf.2⟩ hc (Nat.le_of_ble_eq_true rfl) d_L_law_465 (fun r h2 hq => ?_) (fun X h1 hp => hp.elim)
  obtain ⟨hX2, hM2, v, rfl, hq⟩ := hq
  have hBo : Bo h2 := ⟨G, hG, hI1.same hn hX2.c, hM2⟩
  refine V_istore C [(0, .ref b), (1, .ref (gA g 0)), (2, .ref (gA g 4)), (3, .ref (gA g 16)), (4, .int (nI i)), (5, .int kc), (6, .int v)] d_L_law_468 (by decide) rfl rfl ?_
  refine V_aload_n C d_L_law_470 rfl ?_
  refine V_callV C "GameGraphModel" (As := []) (st := []) (c_M_thrown E h2) wc_M_thrown (fun _ _ => codeIs) wz_M wl_L_56 wi_M_thrown ws_M_thrown ⟨by decide, by decide⟩ rfl recvM ⟨Nat.le_trans (Nat.le_of_ble_eq_true rfl) hRf.1, Nat.le_trans (Nat.le_of_ble_eq_true rfl) hRf.2⟩ hc (Nat.le_of_ble_eq_true rfl) d_L_law_471 (fun r h9 hp9 => ?_) (fun X h1 hp => hp.elim)
  obtain ⟨e9, rfl⟩ := hp9
  rw [e9]
  obtain ⟨ek, eo⟩ := j_ask (B := fun u a => a = VAL G u) hG (fun u a a2 e1 e2 => e1.trans e2.symm) hp hX2 hq
  refine V_iload C d_L_law_474 rfl ?_
  refine V_icmp_eq C 481 d_L_law_476 (by decide) (fun cz => ?_) (fun cz => ?_)
  · refine V_iload C d_L_law_481 rfl ?_
    refine V_if_ne C 498 d_L_law_483 (by decide) (fun c0 => ?_) (fun c0 => ?_)
    · refine V_goto C 613 d_L_law_498 (by decide) ?_
      refine V_lv [(0, .ref b), (1, .ref (gA g 0)), (2, .ref (gA g 4)), (3, .ref (gA g 16)), (4, .int (nI i))] rfl ?_
      exact k h2 _ _ (by show cells + 2 + 0 + 0 ≤ cells + 2; omega) (by show slots + 12 + 0 + 0 ≤ slots + 12; omega) hBo
    · refine V_aload_n C d_L_law_486 rfl ?_
      refine V_iconst (v := 0) C d_L_law_487 (by decide) ?_
      refine V_lald C d_L_law_488 ?_
      refine V_iload C d_L_law_489 rfl ?_
      refine V_i2l C d_L_law_491 ?_
      refine V_lcmp C d_L_law_492 ?_
      refine V_topi (0) (by rw [eo c0]; exact cmp_same _) ?_
      refine V_if_eq C 498 d_L_law_493 (by decide) (fun c5 => ?_) (fun c5 => ?_)
      · refine V_goto C 613 d_L_law_498 (by decide) ?_
        refine V_lv [(0, .ref b), (1, .ref (gA g 0)), (2, .ref (gA g 4)), (3, .ref (gA g 16)), (4, .int (nI i))] rfl ?_
        exact k h2 _ _ (by show cells + 2 + 0 + 0 ≤ cells + 2; omega) (by show slots + 12 + 0 + 0 ≤ slots + 12; omega) hBo
      · exact absurd rfl c5
  · exact absurd ek cz
set_option maxHeartbeats 4000000 in
theorem op_best {l : Launch} {R : Room} {args : Array Value} {M : MT} {g : Gh} {Q : State → Prop} {cells slots : Nat} {b L : Nat} {xs : Nat → Int32} (C : Cx args M g "GameGraphLaw" b_L_law 7) (E : gOk g ∧ l.stackTraces = false) (hX : va_X b L xs (mS M) (gH g)) (hbl : b < (gH g).size) (hL : L ≤ 2048) (hRf : 100 ≤ R.frames ∧ 5000 ≤ R.locals) (hc : cells + 2 ≤ R.cells ∧ slots + 12 ≤ R.slots) {i : Nat} (hi : i + 4 ≤ L) {h : Pic} {G : Gr} (hG : Good G) (hI : InvC G h) (hM : RepM G h) (k : ∀ (h' : Pic) (c' s' : Nat), c' ≤ cells + 2 → s' ≤ slots + 12 → Bo h' → V l R args M g 7 Q c' s' h' 613 [(0, .ref b), (1, .ref (gA g 0)), (2, .ref (gA g 4)), (3, .ref (gA g 16)), (4, .int (nI i))] []) : V l R args M g 7 Q cells slots h 501 [(0, .ref b), (1, .ref (gA g 0)), (2, .ref (gA g 4)), (3, .ref (gA g 16)), (4, .int (nI i))] [] := by
  have hn := hG.2.1
  refine V_aload_n C d_L_law_501 rfl ?_
  refine V_aload_n C d_L_law_502 rfl ?_
  refine V_iload C d_L_law_503 rfl ?_
  refine V_iconst (v := 1) C d_L_law_505 (by decide) ?_
  refine V_iadd C d_L_law_506 ?_
  refine V_topi (nI (i + 1)) (nI_add i 1) ?_
  refine V_sld C hX hbl (i + 1) rfl (by omega) hL d_L_law_507 ?_
  refine V_aload_n C d_L_law_508 rfl ?_
  refine V_callS C (As := [.ref (gA g 0), .int (xs (i + 1)), .ref (gA g 16)]) (st := []) (c_L_best E G h hG hI (xs (i + 1))) wc_L_best (fun _ _ => codeIsW) wz_L wl_L_85 wt_L_best ⟨by decide, by decide⟩ rfl ⟨Nat.le_trans (Nat.le_of_ble_eq_true rfl) hRf.1, Nat.le_trans (Nat.le_of_ble_eq_true rfl) hRf.2⟩ hc (Nat.le_of_ble_eq_true rfl) d_L_law_509 (fun r h1 hp => ?_) (fun X h1 hp => hp.elim)
  obtain ⟨kc, rfl, hS, hI1, hp⟩ := hp
  have hM1 := hM.sameN hn hS
  refine V_istore C [(0, .ref b), (1, .ref (gA g 0)), (2, .ref (gA g 4)), (3, .ref (gA g 16)), (4, .int (nI i)), (5, .int kc)] d_L_law_512 (by decide) rfl rfl ?_
  refine V_aload_n C d_L_law_514 rfl ?_
  refine V_aload_n C d_L_law_515 rfl ?_
  refine V_iload C d_L_law_516 rfl ?_
  refine V_iconst (v := 1) C d_L_law_518 (by decide) ?_
  refine V_iadd C d_L_law_519 ?_
  refine V_topi (nI (i + 1)) (nI_add i 1) ?_
  refine V_sld C hX hbl (i + 1) rfl (by omega) hL d_L_law_520 ?_
  refine V_callV C "GameGraphModel" (As := [.int (xs (i + 1))]) (st := []) (c_M_best E G hG h1 hM1 (xs (i + 1))) wc_M_best (fun _ _ => codeIs) wz_M wl_L_87 wi_M_best ws_M_best ⟨by decide, by decide⟩ rfl recvM ⟨Nat.le_trans (Nat.le_of_ble_eq_true rfl) hRf.1, Nat.le_trans (Nat.le_of_ble_eq_true rfl) hRf.2⟩ hc (Nat.le_of_ble_eq_true rfl) d_L_law_521 (fun r h2 hq => ?_) (fun X h1 hp => hp.elim)
  obtain ⟨hX2, hM2, v, rfl, hq⟩ := hq
  have hBo : Bo h2 := ⟨G, hG, hI1.same hn hX2.c, hM2⟩
  refine V_istore C [(0, .ref b), (1, .ref (gA g 0)), (2, .ref (gA g 4)), (3, .ref (gA g 16)), (4, .int (nI i)), (5, .int kc), (6, .int v)] d_L_law_524 (by decide) rfl rfl ?_
  refine V_aload_n C d_L_law_526 rfl ?_
  refine V_callV C "GameGraphModel" (As := []) (st := []) (c_M_thrown E h2) wc_M_thrown (fun _ _ => codeIs) wz_M wl_L_56 wi_M_thrown ws_M_thrown ⟨by decide, by decide⟩ rfl recvM ⟨Nat.le_trans (Nat.le_of_ble_eq_true rfl) hRf.1, Nat.le_trans (Nat.le_of_ble_eq_true rfl) hRf.2⟩ hc (Nat.le_of_ble_eq_true rfl) d_L_law_527 (fun r h9 hp9 => ?_) (fun X h1 hp => hp.elim)
  obtain ⟨e9, rfl⟩ := hp9
  rw [e9]
  obtain ⟨ek, eo⟩ := j_ask (B := fun u a => Best G u a) hG (fun u a a2 e1 e2 => e1.uniq e2) hp hX2 hq
  refine V_iload C d_L_law_530 rfl ?_
  refine V_icmp_eq C 537 d_L_law_532 (by decide) (fun cz => ?_) (fun cz => ?_)
  · refine V_iload C d_L_law_537 rfl ?_
    refine V_if_ne C 554 d_L_law_539 (by decide) (fun c0 => ?_) (fun c0 => ?_)
    · refine V_goto C 613 d_L_law_554 (by decide) ?_
      refine V_lv [(0, .ref b), (1, .ref (gA g 0)), (2, .ref (gA g 4)), (3, .ref (gA g 16)), (4, .int (nI i))] rfl ?_
      exact k h2 _ _ (by show cells + 2 + 0 + 0 ≤ cells + 2; omega) (by show slots + 12 + 0 + 0 ≤ slots + 12; omega) hBo
    · refine V_aload_n C d_L_law_542 rfl ?_
      refine V_iconst (v := 0) C d_L_law_543 (by decide) ?_
      refine V_lald C d_L_law_544 ?_
      refine V_iload C d_L_law_545 rfl ?_
      refine V_i2l C d_L_law_547 ?_
      refine V_lcmp C d_L_law_548 ?_
      refine V_topi (0) (by rw [eo c0]; exact cmp_same _) ?_
      refine V_if_eq C 554 d_L_law_549 (by decide) (fun c5 => ?_) (fun c5 => ?_)
      · refine V_goto C 613 d_L_law_554 (by decide) ?_
        refine V_lv [(0, .ref b), (1, .ref (gA g 0)), (2, .ref (gA g 4)), (3, .ref (gA g 16)), (4, .int (nI i))] rfl ?_
        exact k h2 _ _ (by show cells + 2 + 0 + 0 ≤ cells + 2; omega) (by show slots + 12 + 0 + 0 ≤ slots + 12; omega) hBo
      · exact absurd rfl c5
  · exact absurd ek cz
set_option maxHeartbeats 4000000 in
theorem op_length {l : Launch} {R : Room} {args : Array Value} {M : MT} {g : Gh} {Q : State → Prop} {cells slots : Nat} {b L : Nat} {xs : Nat → Int32} (C : Cx args M g "GameGraphLaw" b_L_law 7) (E : gOk g ∧ l.stackTraces = false) (hX : va_X b L xs (mS M) (gH g)) (hbl : b < (gH g).size) (hL : L ≤ 2048) (hRf : 100 ≤ R.frames ∧ 5000 ≤ R.locals) (hc : cells + 2 ≤ R.cells ∧ slots + 12 ≤ R.slots) {i : Nat} (hi : i + 4 ≤ L) {h : Pic} {G : Gr} (hG : Good G) (hI : InvC G h) (hM : RepM G h) (k : ∀ (h' : Pic) (c' s' : Nat), c' ≤ cells + 2 → s' ≤ slots + 12 → Bo h' → V l R args M g 7 Q c' s' h' 613 [(0, .ref b), (1, .ref (gA g 0)), (2, .ref (gA g 4)), (3, .ref (gA g 16)), (4, .int (nI i))] []) : V l R args M g 7 Q cells slots h 557 [(0, .ref b), (1, .ref (gA g 0)), (2, .ref (gA g 4)), (3, .ref (gA g 16)), (4, .int (nI i))] [] := by
  have hn := hG.2.1
  refine V_aload_n C d_L_law_557 rfl ?_
  refine V_aload_n C d_L_law_558 rfl ?_
  refine V_iload C d_L_law_559 rfl ?_
  refine V_iconst (v := 1) C d_L_law_561 (by decide) ?_
  refine V_iadd C d_L_law_562 ?_
  refine V_topi (nI (i + 1)) (nI_add i 1) ?_
  refine V_sld C hX hbl (i + 1) rfl (by omega) hL d_L_law_563 ?_
  refine V_aload_n C d_L_law_564 rfl ?_
  refine V_callS C (As := [.ref (gA g 0), .int (xs (i + 1)), .ref (gA g 16)]) (st := []) (c_L_length E G h hG hI (xs (i + 1))) wc_L_length (fun _ _ => codeIsW) wz_L wl_L_88 wt_L_length ⟨by decide, by decide⟩ rfl ⟨Nat.le_trans (Nat.le_of_ble_eq_true rfl) hRf.1, Nat.le_trans (Nat.le_of_ble_eq_true rfl) hRf.2⟩ hc (Nat.le_of_ble_eq_true rfl) d_L_law_565 (fun r h1 hp => ?_) (fun X h1 hp => hp.elim)
  obtain ⟨kc, rfl, hS, hI1, hp⟩ := hp
  have hM1 := hM.sameN hn hS
  refine V_istore C [(0, .ref b), (1, .ref (gA g 0)), (2, .ref (gA g 4)), (3, .ref (gA g 16)), (4, .int (nI i)), (5, .int kc)] d_L_law_568 (by decide) rfl rfl ?_
  refine V_aload_n C d_L_law_570 rfl ?_
  refine V_aload_n C d_L_law_571 rfl ?_
  refine V_iload C d_L_law_572 rfl ?_
  refine V_iconst (v := 1) C d_L_law_574 (by decide) ?_
  refine V_iadd C d_L_law_575 ?_
  refine V_topi (nI (i + 1)) (nI_add i 1) ?_
  refine V_sld C hX hbl (i + 1) rfl (by omega) hL d_L_law_576 ?_
  refine V_callV C "GameGraphModel" (As := [.int (xs (i + 1))]) (st := []) (c_M_length E G hG h1 hM1 (xs (i + 1))) wc_M_length (fun _ _ => codeIs) wz_M wl_L_90 wi_M_length ws_M_length ⟨by decide, by decide⟩ rfl recvM ⟨Nat.le_trans (Nat.le_of_ble_eq_true rfl) hRf.1, Nat.le_trans (Nat.le_of_ble_eq_true rfl) hRf.2⟩ hc (Nat.le_of_ble_eq_true rfl) d_L_law_577 (fun r h2 hq => ?_) (fun X h1 hp => hp.elim)
  obtain ⟨hX2, hM2, v, rfl, hq⟩ := hq
  have hBo : Bo h2 := ⟨G, hG, hI1.same hn hX2.c, hM2⟩
  refine V_istore C [(0, .ref b), (1, .ref (gA g 0)), (2, .ref (gA g 4)), (3, .ref (gA g 16)), (4, .int (nI i)), (5, .int kc), (6, .int v)] d_L_law_580 (by decide) rfl rfl ?_
  refine V_aload_n C d_L_law_582 rfl ?_
  refine V_callV C "GameGraphModel" (As := []) (st := []) (c_M_thrown E h2) wc_M_thrown (fun _ _ => codeIs) wz_M wl_L_56 wi_M_thrown ws_M_thrown ⟨by decide, by decide⟩ rfl recvM ⟨Nat.le_trans (Nat.le_of_ble_eq_true rfl) hRf.1, Nat.le_trans (Nat.le_of_ble_eq_true rfl) hRf.2⟩ hc (Nat.le_of_ble_eq_true rfl) d_L_law_583 (fun r h9 hp9 => ?_) (fun X h1 hp => hp.elim)
  obtain ⟨e9, rfl⟩ := hp9
  rw [e9]
  obtain ⟨ek, eo⟩ := j_ask (B := fun u a => a = nI (LEN G u)) hG (fun u a a2 e1 e2 => e1.trans e2.symm) hp hX2 hq
  refine V_iload C d_L_law_586 rfl ?_
  refine V_icmp_eq C 593 d_L_law_588 (by decide) (fun cz => ?_) (fun cz => ?_)
  · refine V_iload C d_L_law_593 rfl ?_
    refine V_if_ne C 610 d_L_law_595 (by decide) (fun c0 => ?_) (fun c0 => ?_)
    · refine V_goto C 613 d_L_law_610 (by decide) ?_
      refine V_lv [(0, .ref b), (1, .ref (gA g 0)), (2, .ref (gA g 4)), (3, .ref (gA g 16)), (4, .int (nI i))] rfl ?_
      exact k h2 _ _ (by show cells + 2 + 0 + 0 ≤ cells + 2; omega) (by show slots + 12 + 0 + 0 ≤ slots + 12; omega) hBo
    · refine V_aload_n C d_L_law_598 rfl ?_
      refine V_iconst (v := 0) C d_L_law_599 (by decide) ?_
      refine V_lald C d_L_law_600 ?_
      refine V_iload C d_L_law_601 rfl ?_
      refine V_i2l C d_L_law_603 ?_
      refine V_lcmp C d_L_law_604 ?_
      refine V_topi (0) (by rw [eo c0]; exact cmp_same _) ?_
      refine V_if_eq C 610 d_L_law_605 (by decide) (fun c5 => ?_) (fun c5 => ?_)
      · refine V_goto C 613 d_L_law_610 (by decide) ?_
        refine V_lv [(0, .ref b), (1, .ref (gA g 0)), (2, .ref (gA g 4)), (3, .ref (gA g 16)), (4, .int (nI i))] rfl ?_
        exact k h2 _ _ (by show cells + 2 + 0 + 0 ≤ cells + 2; omega) (by show slots + 12 + 0 + 0 ≤ slots + 12; omega) hBo
      · exact absurd rfl c5
  · exact absurd ek cz
set_option maxHeartbeats 4000000 in
theorem op_reached {l : Launch} {R : Room} {args : Array Value} {M : MT} {g : Gh} {Q : State → Prop} {cells slots : Nat} {b L : Nat} {xs : Nat → Int32} (C : Cx args M g "GameGraphLaw" b_L_law 7) (E : gOk g ∧ l.stackTraces = false) (hX : va_X b L xs (mS M) (gH g)) (hbl : b < (gH g).size) (hL : L ≤ 2048) (hRf : 100 ≤ R.frames ∧ 5000 ≤ R.locals) (hc : cells + 2 ≤ R.cells ∧ slots + 12 ≤ R.slots) {i : Nat} (hi : i + 4 ≤ L) {h : Pic} {G : Gr} (hG : Good G) (hI : InvC G h) (hM : RepM G h) (k : ∀ (h' : Pic) (c' s' : Nat), c' ≤ cells + 2 → s' ≤ slots + 12 → Bo h' → V l R args M g 7 Q c' s' h' 613 [(0, .ref b), (1, .ref (gA g 0)), (2, .ref (gA g 4)), (3, .ref (gA g 16)), (4, .int (nI i))] []) : V l R args M g 7 Q cells slots h 376 [(0, .ref b), (1, .ref (gA g 0)), (2, .ref (gA g 4)), (3, .ref (gA g 16)), (4, .int (nI i))] [] := by
  have hn := hG.2.1
  refine V_aload_n C d_L_law_376 rfl ?_
  refine V_callV C "GameGraph" (As := []) (st := []) (c_G_reached E G h hG hI) wc_G_reached (fun _ _ => codeIs) wz_G wl_L_74 wi_G_reached ws_G_reached ⟨by decide, by decide⟩ rfl recvG ⟨Nat.le_trans (Nat.le_of_ble_eq_true rfl) hRf.1, Nat.le_trans (Nat.le_of_ble_eq_true rfl) hRf.2⟩ ⟨Nat.le_trans (Nat.le_add_right _ _) hc.1, Nat.le_trans (Nat.le_add_right _ _) hc.2⟩ (Nat.le_of_ble_eq_true rfl) d_L_law_377 (fun r h1 hp => ?_) (fun X h1 hp => hp.elim)
  obtain ⟨rfl, hI1, hS⟩ := hp
  refine V_aload_n C d_L_law_380 rfl ?_
  refine V_callV C "GameGraphModel" (As := []) (st := [.int (nI (cnt (Reach G 0) (Gn G)))]) (c_M_reached E G hG h1 (hM.same hS)) wc_M_reached (fun _ _ => codeIs) wz_M wl_L_77 wi_M_reached ws_M_reached ⟨by decide, by decide⟩ rfl recvM ⟨Nat.le_trans (Nat.le_of_ble_eq_true rfl) hRf.1, Nat.le_trans (Nat.le_of_ble_eq_true rfl) hRf.2⟩ ⟨Nat.le_trans (Nat.le_add_right _ _) hc.1, Nat.le_trans (Nat.le_add_right _ _) hc.2⟩ (Nat.le_of_ble_eq_true rfl) d_L_law_381 (fun r h2 hq => ?_) (fun X h1 hp => hp.elim)
  obtain ⟨rfl, hX2, hM2⟩ := hq
  refine V_icmp_eq C 613 d_L_law_384 (by decide) (fun cz => ?_) (fun cz => ?_)
  · exact k h2 _ _ (by show cells + 0 + 0 ≤ cells + 2; omega) (by show slots + 0 + 0 ≤ slots + 12; omega) ⟨G, hG, hI1.same hn hX2.c, hM2⟩
  · exact absurd rfl cz
theorem lp_go {i L : Nat} (hL : L ≤ 2048) (hi : i ≤ 2048) (c : ¬ nI L - 4 < nI i) : i + 4 ≤ L := by
  rw [i32_lt, Int32.toInt_sub, nI_toInt (by omega), nI_toInt (by omega), show (4 : Int32).toInt = 4 from rfl, Int.bmod_eq_of_le (by omega) (by omega)] at c
  omega
set_option maxHeartbeats 4000000 in
theorem law_loop {l : Launch} {R : Room} {args : Array Value} {M : MT} {g : Gh} {Q : State → Prop} {b L : Nat} {xs : Nat → Int32} (C : Cx args M g "GameGraphLaw" b_L_law 7) (E : gOk g ∧ l.stackTraces = false) (hX : va_X b L xs (mS M) (gH g)) (hbl : b < (gH g).size) (hL : L ≤ 2048) (hRf : 100 ≤ R.frames ∧ 5000 ≤ R.locals) (hRc : 10000 ≤ R.cells ∧ 60000 ≤ R.slots)
    (kk : ∀ (h : Pic) (c s : Nat), c ≤ 10000 → s ≤ 60000 → V l R args M g 7 Q c s h 619 [] []) :
    ∀ (n i : Nat) (h : Pic) (cells slots : Nat), i ≤ L → L + 1 ≤ i + n → cells ≤ 200 + 2 * i → slots ≤ 3000 + 12 * i → Bo h → V l R args M g 7 Q cells slots h 23 [(0, .ref b), (1, .ref (gA g 0)), (2, .ref (gA g 4)), (3, .ref (gA g 16)), (4, .int (nI i))] [] := by
  intro n
  induction n with
  | zero => intro i h cells slots h1 h2; omega
  | succ n ih =>
    intro i h cells slots b1 b2 b3 b4 hB
    obtain ⟨G, hG, hI, hM⟩ := hB
    refine V_iload C d_L_law_23 rfl ?_
    refine V_aload_n C d_L_law_25 rfl ?_
    refine V_slen C hX hbl d_L_law_26 ?_
    refine V_iconst (v := 4) C d_L_law_27 (by decide) ?_
    refine V_isub C d_L_law_28 ?_
    refine V_icmp_gt C 619 d_L_law_29 (by decide) (fun c1 => ?_) (fun c1 => ?_)
    · refine V_lv [] rfl ?_
      exact kk h cells slots (by omega) (by omega)
    · have hi : i + 4 ≤ L := lp_go hL (by omega) c1
      refine V_aload_n C d_L_law_32 rfl ?_
      refine V_iload C d_L_law_33 rfl ?_
      refine V_sld C hX hbl i rfl (by omega) hL d_L_law_35 ?_
      refine V_bipush (v := 15) C d_L_law_36 (by decide) ?_
      refine V_iand C d_L_law_38 ?_
      have nx : ∀ (h' : Pic) (c' s' : Nat), c' ≤ cells + 2 → s' ≤ slots + 12 → Bo h' → V l R args M g 7 Q c' s' h' 613 [(0, .ref b), (1, .ref (gA g 0)), (2, .ref (gA g 4)), (3, .ref (gA g 16)), (4, .int (nI i))] [] := fun h' c' s' z1 z2 hB' => by
        refine V_iinc C [(0, .ref b), (1, .ref (gA g 0)), (2, .ref (gA g 4)), (3, .ref (gA g 16)), (4, .int (nI (i + 4)))] d_L_law_613 rfl (nI_add i 4) (by decide) rfl rfl ?_
        refine V_goto C 23 d_L_law_616 (by decide) ?_
        exact ih (i + 4) h' c' s' (by omega) (by omega) (by omega) (by omega) hB'
      have hc : cells + 2 ≤ R.cells ∧ slots + 12 ≤ R.slots := by omega
      exact V_tsw C (nx h _ _ (by omega) (by omega) ⟨G, hG, hI, hM⟩) (op_states C E hX hbl hL hRf hc hi hG hI hM nx) (op_end C E hX hbl hL hRf hc hi hG hI hM nx) (op_open C E hX hbl hL hRf hc hi hG hI hM nx) (op_link C E hX hbl hL hRf hc hi hG hI hM nx) (op_next C E hX hbl hL hRf hc hi hG hI hM nx) (op_reached C E hX hbl hL hRf hc hi hG hI hM nx) (op_defect C E hX hbl hL hRf hc hi hG hI hM nx) (op_value C E hX hbl hL hRf hc hi hG hI hM nx) (op_best C E hX hbl hL hRf hc hi hG hI hM nx) (op_length C E hX hbl hL hRf hc hi hG hI hM nx)
end
section
-- ===== what is known at the law's start; the made world as the picture =====
theorem tr_start {s : State} {a0 : Array Value} {w : Cond} (ht : tr_w w = true) (h0 : w.before a0 s = true) (a : Array Value) (S : State) (hS : S.vm = s.vm) : w.before a S = true := by
  have hWS : s.WarmedH S.vm := by rw [hS]; exact State.WarmedH.refl s
  have key : (w.onTables && w.keeps) = true → w.before a S = true := fun hc => word_at hWS (Or.inl hc) h0
  unfold tr_w at ht
  split at ht
  · exact va_Nw.use rfl (va_Nw.warmF hWS h0)
  · exact va_Nw.use rfl (va_Nw.warmM hWS h0)
  · exact va_Nw.use rfl (va_Nw.warmC hWS h0)
  · obtain ⟨c, t, h1, h2, h3⟩ := va_Nc.moved hWS.alike (va_Nc.of h0)
    simp [Cond.before, Cond.holds, Cond.value, h1, h2, h3]
  · exact va_Nw.use rfl (va_Nw.warmD hWS h0)
  · exact word_at hWS (Or.inr ⟨_, rfl⟩) h0
  · exact va_AO.use (va_AO.moved hWS.alike (va_AO.of h0))
  · exact key ht
theorem sw_start {s S : State} {a0 a : Array Value} {O f d : String} (hS : S.vm = s.vm) (hH : ∀ q : Nat, q < s.heap.size → S.heap[q]? = s.heap[q]?) (h : (Cond.laysStatic O f d).before a0 s = true) : (Cond.laysStatic O f d).before a S = true ∧ ((Cond.isRef (.static O f d)).before a0 s = true → (Cond.isRef (.static O f d)).before a S = true) := by
  obtain ⟨c, k, i, fd, x, cell, hc, hf, hst, hsta, hcell, hiss, hcls, hlt, hty⟩ := Cond.laysStatic_spec h
  have hx : x < s.heap.size := (Array.getElem?_eq_some_iff.mp hcell).1
  have hcell' : S.heap[x]? = some cell := by rw [hH x hx]; exact hcell
  have hf' : S.fieldFound? O f d = some (c, k, i, fd) := by
    unfold State.fieldFound? at hf ⊢
    rw [hS]
    exact hf
  refine ⟨Cond.laysStatic_of (by rw [hS]; exact hc) hf' hst hsta hcell' hiss hcls hlt hty, fun hr => ?_⟩
  have e1 : (Term.static O f d).eval a0 s none [] s = cell.slots[fd.slot]? := by simp [Term.eval, State.fieldNamed?, hf, hst, hsta, hcell, hiss]
  have e2 : (Term.static O f d).eval a S none [] S = cell.slots[fd.slot]? := by simp [Term.eval, State.fieldNamed?, hf', hst, hsta, hcell', hiss]
  simp only [Cond.before, Cond.holds, Cond.value] at hr ⊢
  rw [e2]
  rw [e1] at hr
  exact hr
theorem arr_start {s : State} {a0 : Array Value} {ty : FieldType} (h : (Cond.arrayClass ty).before a0 s = true) (ho : ∀ C, ty ≠ .object C) : ∃ c, ArrOfT s c ty ∧ va_RA s c ty := by
  obtain ⟨c, k, comp, h1, h2, h3⟩ := Cond.arrayClass_spec h
  refine ⟨c, fun n z => ⟨fun k h => (by cases h), k, h2, comp, h3⟩, ?_⟩
  cases ty with
  | object C => exact absurd rfl (ho C)
  | _ => exact h1
theorem arr_startQ {s : State} {a0 : Array Value} {C : String} (h : (Cond.arrayOver (.object C)).before a0 s = true) : ∃ c, ArrOfT s c (.object C) ∧ va_RA s c (.object C) := by
  obtain ⟨comp, c, k, h1, -, h2, h3, h4⟩ := Cond.arrayOver_spec h
  exact ⟨c, fun n z => ⟨fun k h => (by cases h), k, h2, comp, h3⟩, k, comp, h2, h3, h1, h4⟩
/-- the ghosts at the start, but for the addresses -/
theorem kv_start {s : State} {a0 : Array Value} (hts : ∀ w ∈ lw_tbl, w.before a0 s = true) (hgv : (Jvm.Cond.and given_1 narrow_1).before a0 s = true) : ∃ (D : va_G) (t : ClassId × ClassId × ClassId × ClassId), ∀ ad : Nat → Nat, Kv ((D, ad, t, s.heap) : Gh) s.vm := by
  have hs := flat_of_before _ hgv
  obtain ⟨c0, i0, k0⟩ := u_known (C := R_G) (T := F_G) (N := 8) (n := 8) hts (fun w hw => (List.mem_filter.mp (i_G w hw)).1) (hts (.instantiable R_G 8) (by decide +kernel))
  obtain ⟨c1, i1, k1⟩ := u_known (C := R_S) (T := F_S) (N := 11) (n := 11) hts (fun w hw => (List.mem_filter.mp (i_S w hw)).1) (hts (.instantiable R_S 11) (by decide +kernel))
  obtain ⟨c2, i2, k2⟩ := u_known (C := R_M) (T := F_M) (N := 13) (n := 13) hts (fun w hw => (List.mem_filter.mp (i_M w hw)).1) (hts (.instantiable R_M 13) (by decide +kernel))
  obtain ⟨dC, dI, hKc⟩ : ∃ (dC : Nat → ClassId) (dI : Nat → Nat → Nat), ∀ (k : Nat) (q : vw_C), classes[k]? = some q → u_Kn s q.1 q.2.1 q.2.2 (dC k) (dI k) := by
    refine ⟨fun k => if k = 0 then c0 else if k = 1 then c1 else c2, fun k => if k = 0 then i0 else if k = 1 then i1 else i2, ?_⟩
    intro k q hq
    match k, hq with
    | 0, hq => cases hq; exact k0
    | 1, hq => cases hq; exact k1
    | 2, hq => cases hq; exact k2
    | k + 3, hq => simp [classes] at hq
  obtain ⟨tI, aI⟩ := arr_start (hts (.arrayClass .int) (by decide +kernel)) (fun C h => by cases h)
  obtain ⟨tZ, aZ⟩ := arr_start (hts (.arrayClass .boolean) (by decide +kernel)) (fun C h => by cases h)
  obtain ⟨tJ, aJ⟩ := arr_start (hts (.arrayClass .long) (by decide +kernel)) (fun C h => by cases h)
  obtain ⟨tQ, aQ⟩ := arr_startQ (hts (.arrayOver (.object "GameGraph$State")) (by decide +kernel))
  refine ⟨(dC, dI), (tI, tZ, tQ, tJ), fun ad => ⟨fun w hw a S hS => ?_, fun w hw a S hS hH => ?_, fun S hS => ?_⟩⟩
  · obtain ⟨h1, h2⟩ := List.mem_filter.mp hw
    rcases List.mem_append.mp h1 with h1 | h1
    · exact tr_start h2 (hts w h1) a S hS
    · refine tr_start h2 (a0 := a0) ?_ a S hS
      simp only [NC, List.mem_cons, List.not_mem_nil, or_false] at h1
      rcases h1 with rfl | rfl
      · exact hs _ (by decide +kernel)
      · exact hs _ (by decide +kernel)
  · have hH : ∀ q : Nat, q < s.heap.size → S.heap[q]? = s.heap[q]? := hH
    simp only [SW, List.mem_cons, List.not_mem_nil, or_false] at hw
    rcases hw with rfl | rfl | rfl | rfl
    · exact (sw_start hS hH (hts _ (by decide +kernel))).1
    · exact (sw_start hS hH (hts _ (by decide +kernel))).1
    · exact (sw_start hS hH (hts (.laysStatic "java/lang/Throwable" "UNASSIGNED_STACK" "[Ljava/lang/StackTraceElement;") (by decide +kernel))).2 (hs _ (by decide +kernel))
    · exact (sw_start hS hH (hts (.laysStatic "java/lang/Throwable" "SUPPRESSED_SENTINEL" "Ljava/util/List;") (by decide +kernel))).2 (hs _ (by decide +kernel))
  · refine va_K.moved (u := s) (U := S) (by rw [hS]; exact Vm.Alike.refl _) ⟨hKc, fun k q hk => ?_⟩
    match k, hk with
    | 0, hk => cases hk; exact aI
    | 1, hk => cases hk; exact aZ
    | 2, hk => cases hk; exact aQ
    | 3, hk => cases hk; exact aJ
    | k + 4, hk => simp [gt] at hk
/-- the picture of the made world -/
def hZ : Pic := fun k => if k = 0 then upd (fun _ => 0) 1 1 else if k = 4 then upd (fun _ => 0) 0 1 else if k = 6 then upd (fun _ => 0) 0 50 else if k = 7 then upd (fun _ => 0) 0 50 else if 17 ≤ k ∧ k < 77 then (fun i => if i = 0 then 1 else if i = 1 then 50 else if i = 2 then 50 else 0) else fun _ => 0
def adr (q0 a1 a2 a3 qm : Nat) (mm : Nat → Nat) (qo : Nat) (aS aN : Nat → Nat) : Nat → Nat := fun k => if k = 0 then q0 else if k = 1 then a1 else if k = 2 then a2 else if k = 3 then a3 else if k = 4 then qm else if k < 16 then mm k else if k = 16 then qo else if k < 77 then aS (k - 17) else aN (k - 77)
def idx (k : Nat) : Nat := if k < 4 then k else if k < 16 then 120 + k else if k = 16 then 136 else if k < 77 then 4 + 2 * (k - 17) else 4 + (2 * (k - 77) + 1)
def wAll (g : Gh) (q0 a1 a2 a3 : Nat) (f : Nat → Option Nat) (aS aN : Nat → Nat) (qm : Nat) (mm : Nat → Nat) (qo : Nat) : va_W := wG g q0 a1 a2 a3 f (lst g aS aN 60) ++ wMo g qm mm ++ [(qo, .inl (gJ g, 1, .inr (.inl (fun _ => 0))))]
theorem hZ_st {u : Nat} (h : u < 60) : hZ (17 + u) = (fun i => if i = 0 then 1 else if i = 1 then 50 else if i = 2 then 50 else 0) := by
  unfold hZ
  rw [if_neg (by omega), if_neg (by omega), if_neg (by omega), if_neg (by omega), if_pos (by omega)]
theorem hZ_nx {u : Nat} : hZ (77 + u) = fun _ => 0 := by
  unfold hZ
  rw [if_neg (by omega), if_neg (by omega), if_neg (by omega), if_neg (by omega), if_neg (by omega)]
theorem adr_st {q0 a1 a2 a3 qm : Nat} {mm : Nat → Nat} {qo : Nat} {aS aN : Nat → Nat} {u : Nat} (h : u < 60) : adr q0 a1 a2 a3 qm mm qo aS aN (17 + u) = aS u := by
  unfold adr
  rw [if_neg (by omega), if_neg (by omega), if_neg (by omega), if_neg (by omega), if_neg (by omega), if_neg (by omega), if_neg (by omega), if_pos (by omega), Nat.add_sub_cancel_left]
theorem adr_nx {q0 a1 a2 a3 qm : Nat} {mm : Nat → Nat} {qo : Nat} {aS aN : Nat → Nat} {u : Nat} : adr q0 a1 a2 a3 qm mm qo aS aN (77 + u) = aN u := by
  unfold adr
  rw [if_neg (by omega), if_neg (by omega), if_neg (by omega), if_neg (by omega), if_neg (by omega), if_neg (by omega), if_neg (by omega), if_neg (by omega), Nat.add_sub_cancel_left]
theorem arrV_congr {c : ClassId} {N : Nat} {f f' : Nat → Value} (h : ∀ j, j < N → f j = f' j) : arrV c N f = arrV c N f' := by
  unfold arrV
  congr 2
  funext j
  exact h j.val j.isLt
section AL
variable {D : va_G} {t : ClassId × ClassId × ClassId × ClassId} {HH : Heap} {q0 a1 a2 a3 qm : Nat} {f : Nat → Option Nat} {mm : Nat → Nat} {qo : Nat} {aS aN : Nat → Nat}
theorem wG_len {g : Gh} : (wG g q0 a1 a2 a3 f (lst g aS aN 60)).length = 124 := by show (lst g aS aN 60).length + 1 + 1 + 1 + 1 = _; rw [lst_len]
theorem all_lo {g : Gh} {k : Nat} {x : Nat × va_E} (hk : k < 124) (h : (wG g q0 a1 a2 a3 f (lst g aS aN 60))[k]? = some x) : (wAll g q0 a1 a2 a3 f aS aN qm mm qo)[k]? = some x := by
  unfold wAll
  rw [List.getElem?_append_left (by rw [List.length_append, wG_len]; omega), List.getElem?_append_left (by rw [wG_len]; omega)]
  exact h
theorem all_mi {g : Gh} {k j : Nat} {x : Nat × va_E} (hk : k = 124 + j) (hj : j < 12) (h : (wMo g qm mm)[j]? = some x) : (wAll g q0 a1 a2 a3 f aS aN qm mm qo)[k]? = some x := by
  subst hk
  unfold wAll
  rw [List.getElem?_append_left (by rw [List.length_append, wG_len]; show 124 + j < 124 + 12; omega), List.getElem?_append_right (by rw [wG_len]; omega), wG_len, Nat.add_sub_cancel_left]
  exact h
theorem all_hi {g : Gh} : (wAll g q0 a1 a2 a3 f aS aN qm mm qo)[136]? = some (qo, .inl (gJ g, 1, .inr (.inl (fun _ => 0)))) := by
  unfold wAll
  rw [List.getElem?_append_right (by rw [List.length_append, wG_len]; show 124 + 12 ≤ 136; omega), List.length_append, wG_len]
  rfl
/-- each cell of the picture is at its place in the made world -/
theorem all_at (g0 g : Gh) (eg : g = ((D, adr q0 a1 a2 a3 qm mm qo aS aN, t, HH) : Gh)) (eg0 : ∃ ad, g0 = ((D, ad, t, HH) : Gh)) (hf : ∀ i, i < 60 → f i = some (aS i)) {H : Heap} (hP : va_P D classes (wAll g0 q0 a1 a2 a3 f aS aN qm mm qo) H) (k : Nat) (hk : k < 137) :
    ∃ e, (wAll g0 q0 a1 a2 a3 f aS aN qm mm qo)[idx k]? = some (gA g k, e) ∧ va_at D classes (gA g k, cel g hZ k) H := by
  obtain ⟨ad, rfl⟩ := eg0
  subst eg
  have lit : ∀ (k : Nat) (x : Nat × va_E), (wAll ((D, ad, t, HH) : Gh) q0 a1 a2 a3 f aS aN qm mm qo)[idx k]? = some x → x = (gA ((D, adr q0 a1 a2 a3 qm mm qo aS aN, t, HH) : Gh) k, cel ((D, adr q0 a1 a2 a3 qm mm qo aS aN, t, HH) : Gh) hZ k) → ∃ e, (wAll ((D, ad, t, HH) : Gh) q0 a1 a2 a3 f aS aN qm mm qo)[idx k]? = some (gA ((D, adr q0 a1 a2 a3 qm mm qo aS aN, t, HH) : Gh) k, e) ∧ va_at D classes (gA ((D, adr q0 a1 a2 a3 qm mm qo aS aN, t, HH) : Gh) k, cel ((D, adr q0 a1 a2 a3 qm mm qo aS aN, t, HH) : Gh) hZ k) H := by
    intro k x h1 h2
    subst h2
    exact ⟨_, h1, hP _ _ h1⟩
  by_cases h17 : k < 17
  · rcases (show k = 0 ∨ k = 1 ∨ k = 2 ∨ k = 3 ∨ k = 4 ∨ k = 5 ∨ k = 6 ∨ k = 7 ∨ k = 8 ∨ k = 9 ∨ k = 10 ∨ k = 11 ∨ k = 12 ∨ k = 13 ∨ k = 14 ∨ k = 15 ∨ k = 16 by omega) with rfl | rfl | rfl | rfl | rfl | rfl | rfl | rfl | rfl | rfl | rfl | rfl | rfl | rfl | rfl | rfl | rfl
    · exact lit 0 _ (all_lo (by decide) rfl) rfl
    · refine ⟨_, all_lo (k := 1) (by decide) rfl, ?_⟩
      have h1 : H[a1]? = some (arrV t.2.2.1 60 (fun j => va_rf (f j))) := hP _ _ (all_lo (k := 1) (by decide) rfl)
      show H[a1]? = some (arrV t.2.2.1 60 (fun j => va_rf (some (adr q0 a1 a2 a3 qm mm qo aS aN (17 + j)))))
      rw [h1]
      refine congrArg some (arrV_congr fun j hj => ?_)
      rw [hf j hj, adr_st hj]
    · exact lit 2 _ (all_lo (by decide) rfl) rfl
    · exact lit 3 _ (all_lo (by decide) rfl) rfl
    · exact lit 4 _ (all_mi (j := 0) (by decide) (by decide) rfl) rfl
    · exact lit 5 _ (all_mi (j := 1) (by decide) (by decide) rfl) rfl
    · exact lit 6 _ (all_mi (j := 2) (by decide) (by decide) rfl) rfl
    · exact lit 7 _ (all_mi (j := 3) (by decide) (by decide) rfl) rfl
    · exact lit 8 _ (all_mi (j := 4) (by decide) (by decide) rfl) rfl
    · exact lit 9 _ (all_mi (j := 5) (by decide) (by decide) rfl) rfl
    · exact lit 10 _ (all_mi (j := 6) (by decide) (by decide) rfl) rfl
    · exact lit 11 _ (all_mi (j := 7) (by decide) (by decide) rfl) rfl
    · exact lit 12 _ (all_mi (j := 8) (by decide) (by decide) rfl) rfl
    · exact lit 13 _ (all_mi (j := 9) (by decide) (by decide) rfl) rfl
    · exact lit 14 _ (all_mi (j := 10) (by decide) (by decide) rfl) rfl
    · exact lit 15 _ (all_mi (j := 11) (by decide) (by decide) rfl) rfl
    · exact lit 16 _ all_hi rfl
  · by_cases h77 : k < 77
    · obtain ⟨u, rfl⟩ : ∃ u, k = 17 + u := ⟨k - 17, by omega⟩
      have hu : u < 60 := by omega
      refine lit (17 + u) (aS u, .inr (1, zE (aN u))) ?_ ?_
      · have e : idx (17 + u) = 4 + 2 * u := by
          unfold idx
          rw [if_neg (by omega), if_neg (by omega), if_neg (by omega), if_pos (by omega)]
          omega
        rw [e]
        refine all_lo (by omega) ?_
        rw [wG_get]
        exact (lst_get hu).1
      · rw [cel_st hu]
        show _ = (adr q0 a1 a2 a3 qm mm qo aS aN (17 + u), _)
        rw [adr_st hu]
        simp only [sF, hZ_st hu]
        rw [show gA ((D, adr q0 a1 a2 a3 qm mm qo aS aN, t, HH) : Gh) (77 + u) = aN u from adr_nx]
        rfl
    · obtain ⟨u, rfl⟩ : ∃ u, k = 77 + u := ⟨k - 77, by omega⟩
      have hu : u < 60 := by omega
      refine lit (77 + u) (aN u, .inl (t.1, 12, .inl (fun _ => 0))) ?_ ?_
      · have e : idx (77 + u) = 4 + (2 * u + 1) := by
          unfold idx
          rw [if_neg (by omega), if_neg (by omega), if_neg (by omega), if_neg (by omega)]
          omega
        rw [e]
        refine all_lo (by omega) ?_
        rw [wG_get]
        exact (lst_get hu).2
      · rw [cel_nx, hZ_nx]
        show _ = (adr q0 a1 a2 a3 qm mm qo aS aN (77 + u), _)
        rw [adr_nx]
theorem idx_inj {i j : Nat} (hi : i < 137) (hj : j < 137) (h : idx i = idx j) : i = j := by
  unfold idx at h
  repeat' split at h
  all_goals omega
theorem all_ok (g0 g : Gh) (eg : g = ((D, adr q0 a1 a2 a3 qm mm qo aS aN, t, HH) : Gh)) (eg0 : ∃ ad, g0 = ((D, ad, t, HH) : Gh)) (hf : ∀ i, i < 60 → f i = some (aS i)) {H : Heap} (hP : va_P D classes (wAll g0 q0 a1 a2 a3 f aS aN qm mm qo) H) (hD : va_D (fun q => HH.size ≤ q) (wAll g0 q0 a1 a2 a3 f aS aN qm mm qo)) : gOk g ∧ va_P g.1 classes (wl g hZ) H := by
  have at' := all_at g0 g eg eg0 hf hP
  refine ⟨⟨fun i j hi hj hij => ?_, fun i hi => ?_⟩, fun k q hq => ?_⟩
  · obtain ⟨e1, h1, -⟩ := at' i hi
    obtain ⟨e2, h2, -⟩ := at' j hj
    exact idx_inj hi hj (hD.1 _ _ _ _ h1 h2 hij)
  · obtain ⟨e1, h1, -⟩ := at' i hi
    have := hD.2 _ _ h1
    rw [eg] at this ⊢
    exact this
  · have hk : k < 137 := by
      have := (List.getElem?_eq_some_iff.mp hq).1
      simpa [wl] using this
    rw [wl_get hk] at hq
    cases hq
    obtain ⟨e1, h1, h2⟩ := at' k hk
    have e : g.1 = D := by rw [eg]
    rw [e]
    exact h2
end AL
/-- the graph at the start -/
def gZ0 : Gr := (1, fun _ => false, fun _ => 50, fun _ => 50, fun _ _ => 0)
theorem bo_start : Bo hZ := by
  refine ⟨gZ0, ⟨by decide, by decide, fun u _ h => (by cases h), fun u _ _ => (by show okEnd 50 50; exact ⟨by decide, by decide, by decide, by decide⟩), fun u j _ hj => ?_⟩, InvC.new ⟨rfl, fun u hu => ?_⟩ rfl, ⟨rfl, fun u hu => ?_⟩⟩
  · have : jt gZ0 u = 0 := by simp [jt, gZ0]
    omega
  · have hu : u < 1 := hu
    have : jt gZ0 u = 0 := by simp [jt, gZ0]
    rw [hZ_st (by omega), this]
    refine ⟨rfl, rfl, rfl, rfl, fun j hj => by omega⟩
  · have hu : u < 1 := hu
    have e : u = 0 := by omega
    subst e
    have : jt gZ0 0 = 0 := by simp [jt, gZ0]
    rw [this]
    exact ⟨rfl, fun q => (by cases q), fun _ => ⟨rfl, rfl⟩, fun j hj => by omega⟩
end
section
/-! THE CLAIM OUT OF ONE WALK OF THE LAW'S BODY. Your part is whole_start (and what it stands on); all else here is the same for every law, but numbers. -/
def lw_P (b : Addr) (xs : List Int32) (args : Array Value) (s : State) : Prop := args = #[.ref b] ∧ s.IntsAt b xs ∧ xs.length ≤ 2048 ∧ (Jvm.Cond.and given_1 narrow_1).before args s = true
def lw_Q (_ : Array Value) (s : State) (o : Outcome) (t : State) : Prop := o = .returned (some (.int 1)) ∧ Framed s o t [] 601024 7293034
def lw_Z (below : List Frame) (a : Array Value) (s : State) : State → Prop := fun t => ∃ o, t.status = .running ∧ Ended t below o ∧ lw_Q a s o t
/-- the law's own end, with 1 on the stack, nothing written that was there before, its room as the claim has it -/
theorem lw_ret {p : Program} {l : Launch} {e : Env} {s : State} {m : MethodId} {below : List Frame} {meth : Method} {c : Code} {b : Nat} (hx : p.tables.exec = Jvm.exec) (hb : c.code = code) (hr : meth.sig.returnType = ret) (hlocks : meth.locks = false) {pc : Nat} {H : Heap} {ls : Array Slot} (hdg : decode code pc = .ok (.ireturn, 1)) : W p l e room_1 s m #[Value.ref b] below meth c H [] 601024 7293034 (lw_Z below #[Value.ref b] s) (F0 m pc ls [.int 1]) := by
  intro T hT X
  obtain ⟨fs, hret, hrun, hended, hW, hframe⟩ := X.leave (v := some (.int 1)) (hlocks := hlocks) (fun h => by rw [hr] at h; cases h)
  have hmeth' : T.vm.method? m = some meth := X.method'
  refine ⟨T.setFrames fs, ?_, .returned (some (.int 1)), hrun, hended, rfl, ⟨_, rfl⟩, hW, hframe⟩
  jvm_step X.here [X.here.top, hx, hb, hdg, hmeth', hr, ret, narrow_b1]
  (try refine ⟨rfl, ?_⟩); (try refine ⟨rfl, ?_⟩)
  first | (intro acts; rw [hret _ acts rfl rfl rfl]) | rw [hret _ _ rfl rfl rfl]
  exact Steps.refl _
/-- what holds at the law's entry: the machine, the code, the tables' words (any of lw_tbl by 'hts w (by decide +kernel)'), the script of L ints xs at the cell b, what the Statement gives of the start (any of its parts by flat_of_before) -/
def lw_At (p : Program) (s : State) (m : MethodId) (meth : Method) (c : Code) (b L : Nat) (xs : Nat → Int32) : Prop :=
  p.tables.exec = Jvm.exec ∧ c.code = code ∧ meth.sig.returnType = ret ∧ c.maxLocals = 7 ∧ s.vm.findClass R_law = some m.cls ∧ (∀ w ∈ lw_tbl, w.before #[Value.ref b] s = true) ∧ va_X b L xs s s.heap ∧ b < s.heap.size ∧ meth.locks = false ∧ (Jvm.Cond.and given_1 narrow_1).before #[Value.ref b] s = true
-- ===== YOUR PART BEGINS =====
set_option maxHeartbeats 8000000 in
/-- from the entry, for every script of at most 2048 ints, the law comes to its end with true -/
theorem whole_start {p : Program} {e : Env} {s : State} {m : MethodId} {below : List Frame} {meth : Method} {c : Code} (l : Launch) (htr : l.stackTraces = false) (hpt : e.platform.stackTraces = false) {b L : Nat} {xs : Nat → Int32} (hL : L ≤ 2048) (C0 : lw_At p s m meth c b L xs) : W p l e room_1 s m #[Value.ref b] below meth c s.heap [] 0 0 (lw_Z below #[Value.ref b] s) (entryFrame m ([Value.ref b] : List Value).toArray 7) := by
  obtain ⟨hx, hb, hr, hml, hown, hts, hX, hbl, hlocks, hgv⟩ := id C0
  obtain ⟨D, t, hKv⟩ := kv_start hts hgv
  obtain ⟨g0, eg0⟩ : ∃ g0 : Gh, g0 = (D, fun _ => 0, t, s.heap) := ⟨_, rfl⟩
  have eg1 : ∃ ad, g0 = ((D, ad, t, s.heap) : Gh) := ⟨_, eg0⟩
  have C : Cy #[Value.ref b] (p, e, s, m, below, meth, c) g0 "GameGraphLaw" b_L_law 7 := ⟨hx, hb, hml, hown, by rw [eg0]; exact hKv _, hlocks⟩
  have hA : ∀ q : Nat, s.heap.size ≤ q → (fun q : Nat => s.heap.size ≤ q) q := fun _ h => h
  have hS : va_S (fun q : Nat => s.heap.size ≤ q) s.heap s.heap [] := va_S.rf
  have hP : va_P g0.1 classes [] s.heap := fun k q h => by simp at h
  have hD : va_D (fun q : Nat => s.heap.size ≤ q) [] := ⟨fun i j p q h => by simp at h, fun k q h => by simp at h⟩
  have hl := lv_entry ([.ref b]) (n := 7) (Nat.le_of_ble_eq_true rfl)
  rw [lg_entry_eq]
  generalize (lg_sl ([.ref b]) ++ List.replicate (7 - (lg_sl ([.ref b])).length) Slot.unset).toArray = la at hl ⊢
  have hl : lv_has la 7 [(0, .ref b)] := hl
  refine va_new (ci := 0) (fs := zG) (C := R_G) (T := F_G) (N := 8) hx hb C.ts (fun w hw => TG_TA w (i_G w hw)) t_G t_G_ok hown (C.w wk_L_8) (C.w wn_G) (C.w wz_G) C.K hP hD hS hA rfl (fun j hj => by rcases (show j = 0 ∨ j = 1 ∨ j = 2 ∨ j = 3 ∨ j = 4 ∨ j = 5 ∨ j = 6 ∨ j = 7 by omega) with rfl | rfl | rfl | rfl | rfl | rfl | rfl | rfl <;> rfl) (by decide) (by decide) d_L_law_0 (fun q0 H hP hD hS => ?_)
  have hP : va_P g0.1 classes [(q0, .inr (0, zG))] H := hP
  have hD : va_D (fun q : Nat => s.heap.size ≤ q) [(q0, .inr (0, zG))] := hD
  refine lv_dup hx hb d_L_law_3 rfl ?_
  refine M_callI (M := (p, e, s, m, below, meth, c)) (st := [.ref q0]) (As := []) C (i_G_init l g0 q0 H.size) wc_G_init wz_G wl_L_46 wi_G_init rfl ⟨by decide, by decide⟩ rfl ⟨by decide, by decide⟩ ⟨by decide, by decide⟩ (Nat.le_of_ble_eq_true rfl) d_L_law_4 hl.1 (hP 0 _ rfl) rfl hS (fun x hx => ?_) (fun H1 locs1 hPo hz1 hk1 hS1 => ?_)
  · rcases hx with hx | hx
    · rw [← hx]; exact hD.2 0 _ rfl
    · exact Nat.le_trans hS.1 hx
  obtain ⟨a1, a2, a3, f, aS, aN, hf, hP1, hD1⟩ := hPo
  have hD1 : va_D (fun q : Nat => s.heap.size ≤ q) (wG g0 q0 a1 a2 a3 f (lst g0 aS aN 60)) := hD1.weaken (fun k q _ h => by
    rcases h with h | h
    · rw [← h]; exact hD.2 0 _ rfl
    · exact Nat.le_trans hS.1 h)
  refine lv_astore_n (lv' := [(1, .ref q0), (0, .ref b)]) hx hb d_L_law_7 rfl hl (by decide) rfl (fun la hl => ?_)
  refine va_new (ci := 2) (fs := zM) (C := R_M) (T := F_M) (N := 13) hx hb C.ts (fun w hw => TG_TA w (i_M w hw)) t_M t_M_ok hown (C.w wk_L_47) (C.w wn_M) (C.w wz_M) C.K hP1 hD1 hS1 hA rfl (fun j hj => by rcases (show j = 0 ∨ j = 1 ∨ j = 2 ∨ j = 3 ∨ j = 4 ∨ j = 5 ∨ j = 6 ∨ j = 7 ∨ j = 8 ∨ j = 9 ∨ j = 10 ∨ j = 11 ∨ j = 12 by omega) with rfl | rfl | rfl | rfl | rfl | rfl | rfl | rfl | rfl | rfl | rfl | rfl | rfl <;> rfl) (by decide) (by decide) d_L_law_8 (fun qm H2 hP2 hD2 hS2 => ?_)
  have hqm : (wG g0 q0 a1 a2 a3 f (lst g0 aS aN 60) ++ [(qm, Sum.inr (2, zM))])[(wG g0 q0 a1 a2 a3 f (lst g0 aS aN 60)).length]? = some (qm, Sum.inr (2, zM)) := by rw [List.getElem?_append_right (Nat.le_refl _), Nat.sub_self]; rfl
  refine lv_dup hx hb d_L_law_11 rfl ?_
  refine M_callI (M := (p, e, s, m, below, meth, c)) (st := [.ref qm]) (As := []) C (i_M_init l g0 qm H2.size) wc_M_init wz_M wl_L_49 wi_M_init rfl ⟨by decide, by decide⟩ rfl ⟨by decide, by decide⟩ ⟨by decide, by decide⟩ (Nat.le_of_ble_eq_true rfl) d_L_law_12 hl.1 (hP2 _ _ hqm) rfl hS2 (fun x hx => ?_) (fun H3 locs3 hPo hz3 hk3 hS3 => ?_)
  · rcases hx with hx | hx
    · rw [← hx]; exact hD2.2 _ _ hqm
    · exact Nat.le_trans hS2.1 hx
  obtain ⟨mm, hP3, hD3⟩ := hPo
  obtain ⟨hP3, hD3⟩ := joinQ hP2 hD2 hk3 hP3 hD3 (fun x hx => Nat.le_trans hS2.1 hx)
  refine lv_astore_n (lv' := [(2, .ref qm), (1, .ref q0), (0, .ref b)]) hx hb d_L_law_15 rfl hl (by decide) rfl (fun la hl => ?_)
  refine lv_iconst (v := 1) hx hb d_L_law_16 (by decide) ?_
  refine M_newa (M := (p, e, s, m, below, meth, c)) (atype := .long) (t0 := 3) (a0 := (1, .inr (.inl (fun _ => 0)))) C wr_J rfl rfl hP3 hD3 hS3 hA (fun _ => rfl) (by decide) rfl (by decide) (by decide) (by decide) d_L_law_17 (fun qo H4 hP4 hD4 hS4 => ?_)
  refine lv_astore_n (lv' := [(3, .ref qo), (2, .ref qm), (1, .ref q0), (0, .ref b)]) hx hb d_L_law_19 rfl hl (by decide) rfl (fun la hl => ?_)
  refine lv_iconst (v := 0) hx hb d_L_law_20 (by decide) ?_
  refine lv_istore (lv' := [(4, .int 0), (3, .ref qo), (2, .ref qm), (1, .ref q0), (0, .ref b)]) hx hb d_L_law_21 hl (by decide) rfl (fun la hl => ?_)
  obtain ⟨g, eg⟩ : ∃ g : Gh, g = (D, adr q0 a1 a2 a3 qm mm qo aS aN, t, s.heap) := ⟨_, rfl⟩
  have e0 : g0.1 = D := by rw [eg0]
  rw [e0] at hP4
  obtain ⟨hok, hPg⟩ := all_ok g0 g eg eg1 hf hP4 hD4
  have egH : gH g = s.heap := by rw [eg]
  have hge : ∀ k, k < 137 → s.heap.size ≤ gA g k := fun k hk => by rw [← egH]; exact hok.2 k hk
  have CX : Cx #[Value.ref b] (p, e, s, m, below, meth, c) g "GameGraphLaw" b_L_law 7 := ⟨hx, hb, hml, hown, by rw [eg]; exact hKv _, hok, hlocks, fun k hk cell hc => by
    have h1 : gA g k < s.heap.size := (Array.getElem?_eq_some_iff.mp hc).1
    have h2 := hge k hk
    omega, hpt, fun q _ => by rw [egH]⟩
  refine va_forget (fun q hq => hS4.2.2 q hq) ?_
  refine law_loop (M := (p, e, s, m, below, meth, c)) (g := g) CX ⟨hok, htr⟩ (b := b) (L := L) (xs := xs) (by rw [egH]; exact hX) (by rw [egH]; exact hbl) hL ⟨by decide, by decide⟩ ⟨by decide, by decide⟩ (fun h c' s' h1 h2 => ?_) (L + 1) 0 hZ _ _ (by omega) (by omega) (by decide) (by decide) bo_start H4 [] la hPg ⟨by rw [egH]; exact hS4.1, fun q h1 h2 => ?_, fun q hq => by cases hq⟩ ?_
  · intro H locs la hP hS hl
    refine lv_iconst (v := 1) hx hb d_L_law_619 (by decide) ?_
    refine va_forget (fun q hq => ?_) ?_
    · obtain ⟨k, hk, e⟩ := hS.2.2 q hq
      rw [e]; exact hge k hk
    · exact W.widen (k := 601024) (n := 7293034) (by omega) (by omega) (lw_ret hx hb hr hlocks d_L_law_620)
  · rw [egH] at h1 ⊢
    exact hS4.2.1 q h1 (fun z => by have : s.heap.size ≤ q := z; omega)
  · rw [eg]
    exact lv_sub hl [4, 3, 2, 1, 0] rfl
-- ===== YOUR PART ENDS =====
set_option maxHeartbeats 4000000 in
theorem lw_walk (l : Launch) (htr : l.stackTraces = false) (b : Addr) (xs : List Int32) : MetFree l x (headSpec (Jvm.Cond.code x code maxLocals ret :: tables_1) room_1) (lw_P b xs) (fun _ _ _ _ _ => True) lw_Q := by
  refine MetFree.of_bodyS (code := code) (maxLocals := maxLocals) (ret := ret) (by decide) ?_ ?_
  · intro args s m h hn
    obtain ⟨meth, c, h1, h2, h3, h4, h5, h6, -, -⟩ := Cond.code_spec hn (atoms_spec (ws := Jvm.Cond.code x code maxLocals ret :: tables_1) h _ List.mem_cons_self)
    exact ⟨meth, c, h1, h2, h3, h4, h5, h6⟩
  · intro p e s m args below meth c s₁ B hml0 hP _
    obtain ⟨rfl, hx, hbd, hgv⟩ := hP
    obtain ⟨scr, harrAt, hlist, hof, hsmall⟩ := hx
    obtain ⟨hcb, hkn, -, -⟩ := State.arrayAt?_spec harrAt
    have hown : s.vm.findClass R_law = some m.cls := findClass_of_methodNamed B.named
    have hts0 : ∀ c ∈ (Jvm.Cond.code x code maxLocals ret :: tables_1), c.before #[Value.ref b] s = true := atoms_spec (ws := Jvm.Cond.code x code maxLocals ret :: tables_1) B.pre
    have hts : ∀ w ∈ lw_tbl, w.before #[Value.ref b] s = true := k2_hts_sels lw_privs (fun w hw => hts0 w (List.mem_cons_of_mem _ hw)) lw_privs_ok
    have hml : c.maxLocals = 7 := B.maxLocals_eq (hts0 _ List.mem_cons_self)
    have X₀ : Stand p l e room_1 s m #[Value.ref b] below meth c s₁ [] 0 0 := Stand.of_body B
    have hh0 : s₁.heap = s.heap := by rw [B.state]; rfl
    have hsz : scr.slots.size = xs.length := by rw [← Array.length_toList, hlist, List.length_map]
    have hval : ∀ j : Nat, j < xs.length → scr.slots[j]? = some (.int (xs.getD j 0)) := fun j hj => by
      rw [← Array.getElem?_toList, hlist]
      simp [hj]
    have hbl : b < s.heap.size := (Array.getElem?_eq_some_iff.mp hcb).1
    have hX : va_X b xs.length (fun j => xs.getD j 0) s s.heap := ⟨scr, hcb, hof, hkn, hsz, hval⟩
    have K : W p l e room_1 s m #[Value.ref b] below meth c s₁.heap [] 0 0 (lw_Z below #[Value.ref b] s) (entryFrame m ([Value.ref b] : List Value).toArray 7) := by
      rw [hh0]
      exact whole_start l htr (by rw [show e.platform.stackTraces = l.stackTraces by rw [B.admits.platform]]; exact htr) hbd ⟨B.exec, B.bytes, B.returns, hml, hown, hts, hX, hbl, B.notSynchronized, hgv⟩
    obtain ⟨t, a1, o, b1, b2, b3⟩ := K s₁ rfl X₀
    exact ⟨t, o, a1, b1, b2, b3⟩
theorem lw_pre_spec {args : Array Value} {s : State} (h : (Jvm.Cond.and given_1 narrow_1).before args s = true) (hr : rest_1_c.before args s = true) : ∃ (b : Addr) (xs : List Int32), lw_P b xs args s := by
  have hs := flat_of_before _ h
  have hq := flat_of_before _ hr
  have hc : (Cond.count 1).before args s = true := hs _ (by decide +kernel)
  have harr : (Cond.arrayOf (.arg 0) .int).before args s = true := hs _ (by decide +kernel)
  have hle : (Cond.le (.length (.arg 0)) (.int 2048)).before args s = true := hs _ (by decide +kernel)
  have hlen : (Cond.isInt (.length (.arg 0))).before args s = true := hq _ (by decide +kernel)
  have hall : (Cond.all (.arg 0) (.isInt (.elem (.arg 0) (.index 0)))).before args s = true := hq _ (by decide +kernel)
  obtain ⟨b, xs, hb, hx⟩ := State.ints_of_pre rfl harr hlen hall
  have hsm : xs.length < 2 ^ 31 := hx.choose_spec.2.2.2
  have hev : (Term.length (.arg 0)).eval args s none [] s = some (.int xs.length.toInt32) := hx.length_eval hb
  have hv := Cond.le_ints hev (show (Term.int 2048).eval args s none [] s = some (.int 2048) from rfl)
  have hd : xs.length.toInt32 ≤ 2048 := by
    simpa [Cond.before, Cond.holds, hv] using hle
  have hN : xs.length ≤ 2048 := (Int32.ofNat_le_ofNat hsm (by decide)).mp (show Int32.ofNat xs.length ≤ Int32.ofNat 2048 from hd)
  exact ⟨b, xs, Cond.one_arg hc (show args[0]? = some (.ref b) from hb), hx, hN, h⟩
theorem lw_comes (l : Launch) (htr : l.stackTraces = false) : Comes l x (Jvm.Cond.code x code maxLocals ret :: tables_1) room_1 (fun tb e args s => Calls_1 tb e args s ∧ rest_1 tb e args s ∧ Pre_1 tb e args s)
    (fun _ _ args s o t => lw_Q args s o t) := by
  intro p e ha hc hk s m args below hf hfit hheap happ hpre
  obtain ⟨b, xs, hP⟩ := lw_pre_spec hpre.2.2 hpre.2.1
  obtain ⟨k, o, h1, h2, h3, hQ⟩ := lw_walk l htr b xs p e ha hc hk s m args below hf ((Spec.applies_iff_loose hf).mp happ).1 hP trivial
  exact ⟨k, o, h1, h2, h3, hQ⟩
theorem lw_frame {s t : State} {o : Outcome} {args : Array Value} (h : Framed s o t [] 601024 7293034) :
    Framed s o t (fieldLocs frame_1_writes args s ++ arrayLocs frame_1_arrays args s ++ staticLocs frame_1_statics s) 601024 7293034 := h
theorem lw_limb (L : Cond) (hL : ∀ (args : Array Value) (s t : State), L.after args s (.returned (some (.int 1))) t = true) :
    ArmFor flags0 classFile x code maxLocals ret World_1 tables_1 room_1 Calls_1 rest_1 Pre_1
      (fun tb e a s o t => postC L tb e a s o t ∧ Framed s o t (fieldLocs frame_1_writes a s ++ arrayLocs frame_1_arrays a s ++ staticLocs frame_1_statics s) 601024 7293034) := by
  intro l hfl _ _ p e ha hc hk s m args below hf hfit hheap happ hpre
  have htr : l.stackTraces = false := by unfold Launch.stackTraces; rw [hfl]; decide +kernel
  obtain ⟨k, o, h1, h2, h3, rfl, hF⟩ := lw_comes l htr p e ha hc hk s m args below hf hfit hheap happ hpre
  exact ⟨k, _, h1, h2, h3, hL args s _, lw_frame hF⟩
theorem i_vc : Claimed_1_1 ∧ Claimed_1_2 := ⟨lw_limb limb_1_1 (fun args s t => by simp [limb_1_1, Cond.after, Cond.holds, Cond.value]), lw_limb limb_1_2 (fun args s t => Cond.after_iff.mpr (by
  first | (rw [show limb_1_2 = Cond.eq .result (.int 1) from rfl, Cond.eq_ints (x := 1) (y := 1) rfl rfl]; simp; done) | (simp [limb_1_2, Cond.value, Term.eval]; done)))⟩
end
