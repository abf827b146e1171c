section
-- ===== PART A: goes FIRST, ahead of the names: the tables' words, and 'selects' of the private methods out of them =====
/-- a private method of a class that the tables say can be made, by its rows of tables_1 -/
def lw_okq (q : MethodName × Nat) : Prop := (q.1.cls ≠ "java/lang/invoke/MethodHandle" ∧ q.1.cls ≠ "java/lang/invoke/VarHandle") ∧ Cond.instantiable q.1.cls q.2 ∈ tables_1 ∧ Cond.privateMethod q.1 ∈ tables_1 ∧ Cond.instanceMethod q.1 ∈ tables_1
set_option maxRecDepth 100000
theorem lw_p0 : lw_okq (⟨"ItemSets", "lostBy", "(I)J"⟩, 8) := ⟨⟨by decide +kernel, by decide +kernel⟩, List.mem_of_getElem? (i := 4) rfl, List.mem_of_getElem? (i := 51) rfl, List.mem_of_getElem? (i := 52) rfl⟩
theorem lw_p1 : lw_okq (⟨"ItemSets", "sort", "()V"⟩, 8) := ⟨⟨by decide +kernel, by decide +kernel⟩, List.mem_of_getElem? (i := 4) rfl, List.mem_of_getElem? (i := 55) rfl, List.mem_of_getElem? (i := 56) rfl⟩
theorem lw_p2 : lw_okq (⟨"ItemSets", "start", "(I)Z"⟩, 8) := ⟨⟨by decide +kernel, by decide +kernel⟩, List.mem_of_getElem? (i := 4) rfl, List.mem_of_getElem? (i := 66) rfl, List.mem_of_getElem? (i := 67) rfl⟩
theorem lw_p3 : lw_okq (⟨"ItemSets", "goOn", "(I)Z"⟩, 8) := ⟨⟨by decide +kernel, by decide +kernel⟩, List.mem_of_getElem? (i := 4) rfl, List.mem_of_getElem? (i := 70) rfl, List.mem_of_getElem? (i := 71) rfl⟩
theorem lw_p4 : lw_okq (⟨"ItemSets", "choose", "(I)V"⟩, 8) := ⟨⟨by decide +kernel, by decide +kernel⟩, List.mem_of_getElem? (i := 4) rfl, List.mem_of_getElem? (i := 74) rfl, List.mem_of_getElem? (i := 75) rfl⟩
theorem lw_p5 : lw_okq (⟨"ItemSets", "leastLoss", "()I"⟩, 8) := ⟨⟨by decide +kernel, by decide +kernel⟩, List.mem_of_getElem? (i := 4) rfl, List.mem_of_getElem? (i := 82) rfl, List.mem_of_getElem? (i := 83) rfl⟩
theorem lw_p6 : lw_okq (⟨"ItemSets", "rulesWithin", "(II)I"⟩, 8) := ⟨⟨by decide +kernel, by decide +kernel⟩, List.mem_of_getElem? (i := 4) rfl, List.mem_of_getElem? (i := 107) rfl, List.mem_of_getElem? (i := 108) rfl⟩
theorem lw_p7 : lw_okq (⟨"ItemSetsModel", "isOften", "(II)Z"⟩, 2) := ⟨⟨by decide +kernel, by decide +kernel⟩, List.mem_of_getElem? (i := 112) rfl, List.mem_of_getElem? (i := 141) rfl, List.mem_of_getElem? (i := 142) rfl⟩
theorem lw_p8 : lw_okq (⟨"ItemSetsModel", "isFull", "(I)Z"⟩, 2) := ⟨⟨by decide +kernel, by decide +kernel⟩, List.mem_of_getElem? (i := 112) rfl, List.mem_of_getElem? (i := 150) rfl, List.mem_of_getElem? (i := 151) rfl⟩
theorem lw_p9 : lw_okq (⟨"ItemSetsModel", "isLargest", "(II)Z"⟩, 2) := ⟨⟨by decide +kernel, by decide +kernel⟩, List.mem_of_getElem? (i := 112) rfl, List.mem_of_getElem? (i := 158) rfl, List.mem_of_getElem? (i := 159) rfl⟩
def lw_privs_1 : List (MethodName × Nat) := [(⟨"ItemSets", "lostBy", "(I)J"⟩, 8), (⟨"ItemSets", "sort", "()V"⟩, 8), (⟨"ItemSets", "start", "(I)Z"⟩, 8), (⟨"ItemSets", "goOn", "(I)Z"⟩, 8), (⟨"ItemSets", "choose", "(I)V"⟩, 8), (⟨"ItemSets", "leastLoss", "()I"⟩, 8), (⟨"ItemSets", "rulesWithin", "(II)I"⟩, 8), (⟨"ItemSetsModel", "isOften", "(II)Z"⟩, 2), (⟨"ItemSetsModel", "isFull", "(I)Z"⟩, 2), (⟨"ItemSetsModel", "isLargest", "(II)Z"⟩, 2)]
theorem lw_r1 : ∀ q ∈ lw_privs_1, lw_okq q := List.forall_mem_cons.mpr ⟨lw_p0, List.forall_mem_cons.mpr ⟨lw_p1, List.forall_mem_cons.mpr ⟨lw_p2, List.forall_mem_cons.mpr ⟨lw_p3, List.forall_mem_cons.mpr ⟨lw_p4, List.forall_mem_cons.mpr ⟨lw_p5, List.forall_mem_cons.mpr ⟨lw_p6, List.forall_mem_cons.mpr ⟨lw_p7, List.forall_mem_cons.mpr ⟨lw_p8, List.forall_mem_cons.mpr ⟨lw_p9, fun _ h => absurd h List.not_mem_nil⟩⟩⟩⟩⟩⟩⟩⟩⟩⟩
def lw_privs : List (MethodName × Nat) := lw_privs_1
def lw_tbl : List Cond := k2_sels lw_privs ++ tables_1
theorem lw_privs_ok : ∀ q ∈ lw_privs, lw_okq q := lw_r1
-- ===== ONE list of words for every method: the tables' words that hold all through a run =====
def lw_all : List Cond := lw_tbl.filter goodWord
/-- a word of the tables by its place: claim/WORDS.tsv -/
theorem lw_w {w : Cond} (i : Nat) (h : lw_tbl[i]? = some w) (g : goodWord w = true) : w ∈ lw_all := List.mem_filter.mpr ⟨List.mem_of_getElem? h, g⟩
theorem lw_all_tbl {w : Cond} (h : w ∈ lw_all) : w ∈ lw_tbl := (List.mem_filter.mp h).1
theorem lw_self : GoodIn lw_all lw_all := fun w h => ⟨h, good_of_word (List.mem_filter.mp h).2⟩
/-- a class's field words, by their places -/
theorem lw_in (ws : List Cond) (ps : List Nat) (hp : ws = ps.filterMap (fun i => lw_tbl[i]?)) (hg : ws.all goodWord = true) : ∀ w ∈ ws, w ∈ lw_all := by
  intro w h
  have h1 := List.all_eq_true.mp hg w h
  rw [hp] at h
  obtain ⟨i, -, hi⟩ := List.mem_filterMap.mp h
  exact lw_w i hi h1
/-- the words of a contract for the method y with code b, L locals, answer r -/
abbrev ws_ (y : MethodName) (b : ByteArray) (L : Nat) (r : Option FieldType) : List Cond := Cond.code y b L r :: lw_all
theorem lw_meth {y : MethodName} {b : ByteArray} {L : Nat} {r : Option FieldType} (h : Cond.code y b L r ∈ lw_all) : GoodIn lw_all (ws_ y b L r) := by
  intro w hw
  rcases List.mem_cons.mp hw with e | e
  · rw [e]
    exact lw_self _ h
  · exact lw_self _ e
theorem lw_app {a c : List Cond} (ha : ∀ w ∈ a, w ∈ lw_all) (hc : GoodIn lw_all c) : GoodIn lw_all (a ++ c) := by
  intro w hw
  rcases List.mem_append.mp hw with e | e
  · exact lw_self w (ha w e)
  · exact hc w e
/-- what a call through an object asks: cwV n hts (lw_V ..) -/
theorem lw_V {own : String} {idx : Nat} {C : String} {y : MethodName} {b : ByteArray} {L : Nat} {r : Option FieldType} (h1 : Cond.methodLink own idx y ∈ lw_all) (h2 : Cond.instanceMethod y ∈ lw_all) (h3 : Cond.selects C y y ∈ lw_all) (h4 : Cond.initialized C ∈ lw_all) (h5 : Cond.code y b L r ∈ lw_all) : GoodIn lw_all (wsV own idx C y (ws_ y b L r)) := by
  refine lw_app ?_ (lw_meth h5)
  intro w hw
  simp only [List.mem_cons, List.not_mem_nil, or_false] at hw
  rcases hw with e | e | e | e
  · rw [e]; exact h1
  · rw [e]; exact h2
  · rw [e]; exact h3
  · rw [e]; exact h4
/-- what a static call asks: va_cwS n hts (lw_S ..) -/
theorem lw_S {own : String} {idx : Nat} {y : MethodName} {b : ByteArray} {L : Nat} {r : Option FieldType} (h1 : Cond.methodLink own idx y ∈ lw_all) (h2 : Cond.static y ∈ lw_all) (h3 : Cond.initialized y.cls ∈ lw_all) (h4 : Cond.code y b L r ∈ lw_all) : GoodIn lw_all (va_wsS own idx y (ws_ y b L r)) := by
  refine lw_app ?_ (lw_meth h4)
  intro w hw
  simp only [List.mem_cons, List.not_mem_nil, or_false] at hw
  rcases hw with e | e | e
  · rw [e]; exact h1
  · rw [e]; exact h2
  · rw [e]; exact h3
/-- the words of a contract for a method WITH HANDLERS (hh: its table) -/
abbrev wsW_ (y : MethodName) (b : ByteArray) (L : Nat) (r : Option FieldType) (hh : List (Nat × Nat × Nat × Nat)) : List Cond := Cond.codeWith y b L r hh :: lw_all
theorem lw_methW {y : MethodName} {b : ByteArray} {L : Nat} {r : Option FieldType} {hh : List (Nat × Nat × Nat × Nat)} (h : Cond.codeWith y b L r hh ∈ lw_all) : GoodIn lw_all (wsW_ y b L r hh) := by
  intro w hw
  rcases List.mem_cons.mp hw with e | e
  · rw [e]
    exact lw_self _ h
  · exact lw_self _ e
/-- any list of words by their places (lw_in), good -/
theorem lw_good {ws : List Cond} (h : ∀ w ∈ ws, w ∈ lw_all) : GoodIn lw_all ws := fun w hw => lw_self w (h w hw)
/-- what a call of a method with handlers asks: vx_cwVW n hts (lw_VW ..), vx_cwSW n hts (lw_SW ..) -/
theorem lw_VW {own : String} {idx : Nat} {C : String} {y : MethodName} {b : ByteArray} {L : Nat} {r : Option FieldType} {hh : List (Nat × Nat × Nat × Nat)} (h1 : Cond.methodLink own idx y ∈ lw_all) (h2 : Cond.instanceMethod y ∈ lw_all) (h3 : Cond.selects C y y ∈ lw_all) (h4 : Cond.initialized C ∈ lw_all) (h5 : Cond.codeWith y b L r hh ∈ lw_all) : GoodIn lw_all (wsV own idx C y (wsW_ y b L r hh)) := by
  refine lw_app ?_ (lw_methW h5)
  intro w hw
  simp only [List.mem_cons, List.not_mem_nil, or_false] at hw
  rcases hw with e | e | e | e
  · rw [e]; exact h1
  · rw [e]; exact h2
  · rw [e]; exact h3
  · rw [e]; exact h4
theorem lw_SW {own : String} {idx : Nat} {y : MethodName} {b : ByteArray} {L : Nat} {r : Option FieldType} {hh : List (Nat × Nat × Nat × Nat)} (h1 : Cond.methodLink own idx y ∈ lw_all) (h2 : Cond.static y ∈ lw_all) (h3 : Cond.initialized y.cls ∈ lw_all) (h4 : Cond.codeWith y b L r hh ∈ lw_all) : GoodIn lw_all (va_wsS own idx y (wsW_ y b L r hh)) := by
  refine lw_app ?_ (lw_methW h4)
  intro w hw
  simp only [List.mem_cons, List.not_mem_nil, or_false] at hw
  rcases hw with e | e | e
  · rw [e]; exact h1
  · rw [e]; exact h2
  · rw [e]; exact h3
/-- a word by its place in its run of the tables -/
theorem lw_at {r : List Cond} (hr : ∀ w ∈ r, w ∈ lw_tbl) {w : Cond} (i : Nat) (h : r[i]? = some w) : w ∈ lw_tbl := hr w (List.mem_of_getElem? h)
theorem lw_g {w : Cond} (h : w ∈ lw_tbl) (g : goodWord w = true) : w ∈ lw_all := List.mem_filter.mpr ⟨h, g⟩
theorem lw_ms : ∀ w ∈ k2_sels lw_privs, w ∈ lw_tbl := fun w h => show w ∈ k2_sels lw_privs ++ tables_1 from List.mem_append_left _ h
theorem lw_m0 : ∀ w ∈ tables_1, w ∈ lw_tbl := fun w h => show w ∈ k2_sels lw_privs ++ tables_1 from List.mem_append_right (k2_sels lw_privs) h
theorem qs0 : (Cond.selects "ItemSets" ⟨"ItemSets", "lostBy", "(I)J"⟩ ⟨"ItemSets", "lostBy", "(I)J"⟩) ∈ lw_all := lw_g (lw_at lw_ms 0 rfl) rfl
theorem qs1 : (Cond.selects "ItemSets" ⟨"ItemSets", "sort", "()V"⟩ ⟨"ItemSets", "sort", "()V"⟩) ∈ lw_all := lw_g (lw_at lw_ms 1 rfl) rfl
theorem qs2 : (Cond.selects "ItemSets" ⟨"ItemSets", "start", "(I)Z"⟩ ⟨"ItemSets", "start", "(I)Z"⟩) ∈ lw_all := lw_g (lw_at lw_ms 2 rfl) rfl
theorem qs3 : (Cond.selects "ItemSets" ⟨"ItemSets", "goOn", "(I)Z"⟩ ⟨"ItemSets", "goOn", "(I)Z"⟩) ∈ lw_all := lw_g (lw_at lw_ms 3 rfl) rfl
theorem qs4 : (Cond.selects "ItemSets" ⟨"ItemSets", "choose", "(I)V"⟩ ⟨"ItemSets", "choose", "(I)V"⟩) ∈ lw_all := lw_g (lw_at lw_ms 4 rfl) rfl
theorem qs5 : (Cond.selects "ItemSets" ⟨"ItemSets", "leastLoss", "()I"⟩ ⟨"ItemSets", "leastLoss", "()I"⟩) ∈ lw_all := lw_g (lw_at lw_ms 5 rfl) rfl
theorem qs6 : (Cond.selects "ItemSets" ⟨"ItemSets", "rulesWithin", "(II)I"⟩ ⟨"ItemSets", "rulesWithin", "(II)I"⟩) ∈ lw_all := lw_g (lw_at lw_ms 6 rfl) rfl
theorem qs7 : (Cond.selects "ItemSetsModel" ⟨"ItemSetsModel", "isOften", "(II)Z"⟩ ⟨"ItemSetsModel", "isOften", "(II)Z"⟩) ∈ lw_all := lw_g (lw_at lw_ms 7 rfl) rfl
theorem qs8 : (Cond.selects "ItemSetsModel" ⟨"ItemSetsModel", "isFull", "(I)Z"⟩ ⟨"ItemSetsModel", "isFull", "(I)Z"⟩) ∈ lw_all := lw_g (lw_at lw_ms 8 rfl) rfl
theorem qs9 : (Cond.selects "ItemSetsModel" ⟨"ItemSetsModel", "isLargest", "(II)Z"⟩ ⟨"ItemSetsModel", "isLargest", "(II)Z"⟩) ∈ lw_all := lw_g (lw_at lw_ms 9 rfl) rfl
end
section
/-! ItemSets -/
set_option maxRecDepth 100000
def RX0 : String := "ItemSets"
def TX0 : u_T := fun k => match k with
  | 0 => ("ItemSets", "baskets", "I", false)
  | 1 => ("ItemSets", "basket", "[I", true)
  | 2 => ("ItemSets", "sorted", "Z", false)
  | 3 => ("ItemSets", "lacking", "[J", true)
  | 4 => ("ItemSets", "set", "I", false)
  | 5 => ("ItemSets", "lost", "[J", true)
  | 6 => ("ItemSets", "choice", "[I", true)
  | _ => ("ItemSets", "depth", "I", false)
def tyX0 : Nat → FieldType := fun k => match k with
  | 0 => .int
  | 1 => .array .int
  | 2 => .boolean
  | 3 => .array .long
  | 4 => .int
  | 5 => .array .long
  | 6 => .array .int
  | _ => .int
abbrev wsX00 : List Cond := u_ws RX0 TX0 8
theorem nmX0 : ∀ a, a < 8 → ∀ b, b < 8 → a ≠ b → (TX0 a).2.1 ≠ (TX0 b).2.1 := by decide +kernel
theorem tyX0_ok : ∀ k, k < 8 → parseFieldDescriptor (TX0 k).2.2.1 = some (tyX0 k) := by decide +kernel
abbrev cX0_init : ByteArray := prog_1_method_1_code
def yX0_init : MethodName := ⟨RX0, "<init>", "()V"⟩
theorem dX0_init_0 : decode cX0_init 0 = .ok (.aload_n 0, 1) := by decide +kernel
theorem dX0_init_1 : decode cX0_init 1 = .ok (.invokespecial 1, 3) := by decide +kernel
theorem dX0_init_4 : decode cX0_init 4 = .ok (.aload_n 0, 1) := by decide +kernel
theorem dX0_init_5 : decode cX0_init 5 = .ok (.bipush 40, 2) := by decide +kernel
theorem dX0_init_7 : decode cX0_init 7 = .ok (.newarray .int, 2) := by decide +kernel
theorem dX0_init_9 : decode cX0_init 9 = .ok (.putfield 7, 3) := by decide +kernel
theorem dX0_init_12 : decode cX0_init 12 = .ok (.aload_n 0, 1) := by decide +kernel
theorem dX0_init_13 : decode cX0_init 13 = .ok (.bipush 8, 2) := by decide +kernel
theorem dX0_init_15 : decode cX0_init 15 = .ok (.newarray .long, 2) := by decide +kernel
theorem dX0_init_17 : decode cX0_init 17 = .ok (.putfield 13, 3) := by decide +kernel
theorem dX0_init_20 : decode cX0_init 20 = .ok (.aload_n 0, 1) := by decide +kernel
theorem dX0_init_21 : decode cX0_init 21 = .ok (.bipush 9, 2) := by decide +kernel
theorem dX0_init_23 : decode cX0_init 23 = .ok (.newarray .long, 2) := by decide +kernel
theorem dX0_init_25 : decode cX0_init 25 = .ok (.putfield 17, 3) := by decide +kernel
theorem dX0_init_28 : decode cX0_init 28 = .ok (.aload_n 0, 1) := by decide +kernel
theorem dX0_init_29 : decode cX0_init 29 = .ok (.bipush 9, 2) := by decide +kernel
theorem dX0_init_31 : decode cX0_init 31 = .ok (.newarray .int, 2) := by decide +kernel
theorem dX0_init_33 : decode cX0_init 33 = .ok (.putfield 20, 3) := by decide +kernel
theorem dX0_init_36 : decode cX0_init 36 = .ok (.return_, 1) := by decide +kernel
abbrev cX0_add : ByteArray := prog_1_method_2_code
def yX0_add : MethodName := ⟨RX0, "add", "(I)I"⟩
theorem dX0_add_0 : decode cX0_add 0 = .ok (.aload_n 0, 1) := by decide +kernel
theorem dX0_add_1 : decode cX0_add 1 = .ok (.getfield 23, 3) := by decide +kernel
theorem dX0_add_4 : decode cX0_add 4 = .ok (.bipush 40, 2) := by decide +kernel
theorem dX0_add_6 : decode cX0_add 6 = .ok (.if_icmp .lt 5, 3) := by decide +kernel
theorem dX0_add_9 : decode cX0_add 9 = .ok (.iconst (-1), 1) := by decide +kernel
theorem dX0_add_10 : decode cX0_add 10 = .ok (.ireturn, 1) := by decide +kernel
theorem dX0_add_11 : decode cX0_add 11 = .ok (.aload_n 0, 1) := by decide +kernel
theorem dX0_add_12 : decode cX0_add 12 = .ok (.getfield 7, 3) := by decide +kernel
theorem dX0_add_15 : decode cX0_add 15 = .ok (.aload_n 0, 1) := by decide +kernel
theorem dX0_add_16 : decode cX0_add 16 = .ok (.getfield 23, 3) := by decide +kernel
theorem dX0_add_19 : decode cX0_add 19 = .ok (.iload_n 1, 1) := by decide +kernel
theorem dX0_add_20 : decode cX0_add 20 = .ok (.sipush 255, 3) := by decide +kernel
theorem dX0_add_23 : decode cX0_add 23 = .ok (.iand, 1) := by decide +kernel
theorem dX0_add_24 : decode cX0_add 24 = .ok (.iastore, 1) := by decide +kernel
theorem dX0_add_25 : decode cX0_add 25 = .ok (.aload_n 0, 1) := by decide +kernel
theorem dX0_add_26 : decode cX0_add 26 = .ok (.dup, 1) := by decide +kernel
theorem dX0_add_27 : decode cX0_add 27 = .ok (.getfield 23, 3) := by decide +kernel
theorem dX0_add_30 : decode cX0_add 30 = .ok (.iconst 1, 1) := by decide +kernel
theorem dX0_add_31 : decode cX0_add 31 = .ok (.iadd, 1) := by decide +kernel
theorem dX0_add_32 : decode cX0_add 32 = .ok (.putfield 23, 3) := by decide +kernel
theorem dX0_add_35 : decode cX0_add 35 = .ok (.aload_n 0, 1) := by decide +kernel
theorem dX0_add_36 : decode cX0_add 36 = .ok (.iconst 0, 1) := by decide +kernel
theorem dX0_add_37 : decode cX0_add 37 = .ok (.putfield 27, 3) := by decide +kernel
theorem dX0_add_40 : decode cX0_add 40 = .ok (.aload_n 0, 1) := by decide +kernel
theorem dX0_add_41 : decode cX0_add 41 = .ok (.getfield 23, 3) := by decide +kernel
theorem dX0_add_44 : decode cX0_add 44 = .ok (.ireturn, 1) := by decide +kernel
abbrev cX0_drop : ByteArray := prog_1_method_3_code
def yX0_drop : MethodName := ⟨RX0, "drop", "(I)I"⟩
theorem dX0_drop_0 : decode cX0_drop 0 = .ok (.iload_n 1, 1) := by decide +kernel
theorem dX0_drop_1 : decode cX0_drop 1 = .ok (.ifCond .lt 11, 3) := by decide +kernel
theorem dX0_drop_4 : decode cX0_drop 4 = .ok (.iload_n 1, 1) := by decide +kernel
theorem dX0_drop_5 : decode cX0_drop 5 = .ok (.aload_n 0, 1) := by decide +kernel
theorem dX0_drop_6 : decode cX0_drop 6 = .ok (.getfield 23, 3) := by decide +kernel
theorem dX0_drop_9 : decode cX0_drop 9 = .ok (.if_icmp .lt 5, 3) := by decide +kernel
theorem dX0_drop_12 : decode cX0_drop 12 = .ok (.iconst (-1), 1) := by decide +kernel
theorem dX0_drop_13 : decode cX0_drop 13 = .ok (.ireturn, 1) := by decide +kernel
theorem dX0_drop_14 : decode cX0_drop 14 = .ok (.aload_n 0, 1) := by decide +kernel
theorem dX0_drop_15 : decode cX0_drop 15 = .ok (.dup, 1) := by decide +kernel
theorem dX0_drop_16 : decode cX0_drop 16 = .ok (.getfield 23, 3) := by decide +kernel
theorem dX0_drop_19 : decode cX0_drop 19 = .ok (.iconst 1, 1) := by decide +kernel
theorem dX0_drop_20 : decode cX0_drop 20 = .ok (.isub, 1) := by decide +kernel
theorem dX0_drop_21 : decode cX0_drop 21 = .ok (.putfield 23, 3) := by decide +kernel
theorem dX0_drop_24 : decode cX0_drop 24 = .ok (.iload_n 1, 1) := by decide +kernel
theorem dX0_drop_25 : decode cX0_drop 25 = .ok (.istore_n 2, 1) := by decide +kernel
theorem dX0_drop_26 : decode cX0_drop 26 = .ok (.iload_n 2, 1) := by decide +kernel
theorem dX0_drop_27 : decode cX0_drop 27 = .ok (.aload_n 0, 1) := by decide +kernel
theorem dX0_drop_28 : decode cX0_drop 28 = .ok (.getfield 23, 3) := by decide +kernel
theorem dX0_drop_31 : decode cX0_drop 31 = .ok (.if_icmp .ge 23, 3) := by decide +kernel
theorem dX0_drop_34 : decode cX0_drop 34 = .ok (.aload_n 0, 1) := by decide +kernel
theorem dX0_drop_35 : decode cX0_drop 35 = .ok (.getfield 7, 3) := by decide +kernel
theorem dX0_drop_38 : decode cX0_drop 38 = .ok (.iload_n 2, 1) := by decide +kernel
theorem dX0_drop_39 : decode cX0_drop 39 = .ok (.aload_n 0, 1) := by decide +kernel
theorem dX0_drop_40 : decode cX0_drop 40 = .ok (.getfield 7, 3) := by decide +kernel
theorem dX0_drop_43 : decode cX0_drop 43 = .ok (.iload_n 2, 1) := by decide +kernel
theorem dX0_drop_44 : decode cX0_drop 44 = .ok (.iconst 1, 1) := by decide +kernel
theorem dX0_drop_45 : decode cX0_drop 45 = .ok (.iadd, 1) := by decide +kernel
theorem dX0_drop_46 : decode cX0_drop 46 = .ok (.iaload, 1) := by decide +kernel
theorem dX0_drop_47 : decode cX0_drop 47 = .ok (.iastore, 1) := by decide +kernel
theorem dX0_drop_48 : decode cX0_drop 48 = .ok (.iinc 2 1, 3) := by decide +kernel
theorem dX0_drop_51 : decode cX0_drop 51 = .ok (.goto (-25), 3) := by decide +kernel
theorem dX0_drop_54 : decode cX0_drop 54 = .ok (.aload_n 0, 1) := by decide +kernel
theorem dX0_drop_55 : decode cX0_drop 55 = .ok (.iconst 0, 1) := by decide +kernel
theorem dX0_drop_56 : decode cX0_drop 56 = .ok (.putfield 27, 3) := by decide +kernel
theorem dX0_drop_59 : decode cX0_drop 59 = .ok (.aload_n 0, 1) := by decide +kernel
theorem dX0_drop_60 : decode cX0_drop 60 = .ok (.getfield 23, 3) := by decide +kernel
theorem dX0_drop_63 : decode cX0_drop 63 = .ok (.ireturn, 1) := by decide +kernel
abbrev cX0_support : ByteArray := prog_1_method_4_code
def yX0_support : MethodName := ⟨RX0, "support", "(I)I"⟩
theorem dX0_support_0 : decode cX0_support 0 = .ok (.aload_n 0, 1) := by decide +kernel
theorem dX0_support_1 : decode cX0_support 1 = .ok (.iload_n 1, 1) := by decide +kernel
theorem dX0_support_2 : decode cX0_support 2 = .ok (.invokevirtual 31, 3) := by decide +kernel
theorem dX0_support_5 : decode cX0_support 5 = .ok (.lstore_n 2, 1) := by decide +kernel
theorem dX0_support_6 : decode cX0_support 6 = .ok (.aload_n 0, 1) := by decide +kernel
theorem dX0_support_7 : decode cX0_support 7 = .ok (.getfield 23, 3) := by decide +kernel
theorem dX0_support_10 : decode cX0_support 10 = .ok (.lload_n 2, 1) := by decide +kernel
theorem dX0_support_11 : decode cX0_support 11 = .ok (.invokestatic 35, 3) := by decide +kernel
theorem dX0_support_14 : decode cX0_support 14 = .ok (.isub, 1) := by decide +kernel
theorem dX0_support_15 : decode cX0_support 15 = .ok (.ireturn, 1) := by decide +kernel
abbrev cX0_lostBy : ByteArray := prog_1_method_15_code
def yX0_lostBy : MethodName := ⟨RX0, "lostBy", "(I)J"⟩
theorem dX0_lostBy_0 : decode cX0_lostBy 0 = .ok (.aload_n 0, 1) := by decide +kernel
theorem dX0_lostBy_1 : decode cX0_lostBy 1 = .ok (.invokevirtual 61, 3) := by decide +kernel
theorem dX0_lostBy_4 : decode cX0_lostBy 4 = .ok (.lconst 0, 1) := by decide +kernel
theorem dX0_lostBy_5 : decode cX0_lostBy 5 = .ok (.lstore_n 2, 1) := by decide +kernel
theorem dX0_lostBy_6 : decode cX0_lostBy 6 = .ok (.iconst 0, 1) := by decide +kernel
theorem dX0_lostBy_7 : decode cX0_lostBy 7 = .ok (.istore 4, 2) := by decide +kernel
theorem dX0_lostBy_9 : decode cX0_lostBy 9 = .ok (.iload 4, 2) := by decide +kernel
theorem dX0_lostBy_11 : decode cX0_lostBy 11 = .ok (.bipush 8, 2) := by decide +kernel
theorem dX0_lostBy_13 : decode cX0_lostBy 13 = .ok (.if_icmp .ge 32, 3) := by decide +kernel
theorem dX0_lostBy_16 : decode cX0_lostBy 16 = .ok (.lload_n 2, 1) := by decide +kernel
theorem dX0_lostBy_17 : decode cX0_lostBy 17 = .ok (.iload_n 1, 1) := by decide +kernel
theorem dX0_lostBy_18 : decode cX0_lostBy 18 = .ok (.iload 4, 2) := by decide +kernel
theorem dX0_lostBy_20 : decode cX0_lostBy 20 = .ok (.iushr, 1) := by decide +kernel
theorem dX0_lostBy_21 : decode cX0_lostBy 21 = .ok (.iconst 1, 1) := by decide +kernel
theorem dX0_lostBy_22 : decode cX0_lostBy 22 = .ok (.iand, 1) := by decide +kernel
theorem dX0_lostBy_23 : decode cX0_lostBy 23 = .ok (.ifCond .eq 13, 3) := by decide +kernel
theorem dX0_lostBy_26 : decode cX0_lostBy 26 = .ok (.aload_n 0, 1) := by decide +kernel
theorem dX0_lostBy_27 : decode cX0_lostBy 27 = .ok (.getfield 13, 3) := by decide +kernel
theorem dX0_lostBy_30 : decode cX0_lostBy 30 = .ok (.iload 4, 2) := by decide +kernel
theorem dX0_lostBy_32 : decode cX0_lostBy 32 = .ok (.laload, 1) := by decide +kernel
theorem dX0_lostBy_33 : decode cX0_lostBy 33 = .ok (.goto 4, 3) := by decide +kernel
theorem dX0_lostBy_36 : decode cX0_lostBy 36 = .ok (.lconst 0, 1) := by decide +kernel
theorem dX0_lostBy_37 : decode cX0_lostBy 37 = .ok (.lor, 1) := by decide +kernel
theorem dX0_lostBy_38 : decode cX0_lostBy 38 = .ok (.lstore_n 2, 1) := by decide +kernel
theorem dX0_lostBy_39 : decode cX0_lostBy 39 = .ok (.iinc 4 1, 3) := by decide +kernel
theorem dX0_lostBy_42 : decode cX0_lostBy 42 = .ok (.goto (-33), 3) := by decide +kernel
theorem dX0_lostBy_45 : decode cX0_lostBy 45 = .ok (.lload_n 2, 1) := by decide +kernel
theorem dX0_lostBy_46 : decode cX0_lostBy 46 = .ok (.lreturn, 1) := by decide +kernel
abbrev cX0_sort : ByteArray := prog_1_method_14_code
def yX0_sort : MethodName := ⟨RX0, "sort", "()V"⟩
theorem dX0_sort_0 : decode cX0_sort 0 = .ok (.aload_n 0, 1) := by decide +kernel
theorem dX0_sort_1 : decode cX0_sort 1 = .ok (.getfield 27, 3) := by decide +kernel
theorem dX0_sort_4 : decode cX0_sort 4 = .ok (.ifCond .eq 4, 3) := by decide +kernel
theorem dX0_sort_7 : decode cX0_sort 7 = .ok (.return_, 1) := by decide +kernel
theorem dX0_sort_8 : decode cX0_sort 8 = .ok (.aload_n 0, 1) := by decide +kernel
theorem dX0_sort_9 : decode cX0_sort 9 = .ok (.iconst 1, 1) := by decide +kernel
theorem dX0_sort_10 : decode cX0_sort 10 = .ok (.putfield 27, 3) := by decide +kernel
theorem dX0_sort_13 : decode cX0_sort 13 = .ok (.iconst 0, 1) := by decide +kernel
theorem dX0_sort_14 : decode cX0_sort 14 = .ok (.istore_n 1, 1) := by decide +kernel
theorem dX0_sort_15 : decode cX0_sort 15 = .ok (.iload_n 1, 1) := by decide +kernel
theorem dX0_sort_16 : decode cX0_sort 16 = .ok (.bipush 8, 2) := by decide +kernel
theorem dX0_sort_18 : decode cX0_sort 18 = .ok (.if_icmp .ge 61, 3) := by decide +kernel
theorem dX0_sort_21 : decode cX0_sort 21 = .ok (.aload_n 0, 1) := by decide +kernel
theorem dX0_sort_22 : decode cX0_sort 22 = .ok (.getfield 13, 3) := by decide +kernel
theorem dX0_sort_25 : decode cX0_sort 25 = .ok (.iload_n 1, 1) := by decide +kernel
theorem dX0_sort_26 : decode cX0_sort 26 = .ok (.lconst 0, 1) := by decide +kernel
theorem dX0_sort_27 : decode cX0_sort 27 = .ok (.lastore, 1) := by decide +kernel
theorem dX0_sort_28 : decode cX0_sort 28 = .ok (.iconst 0, 1) := by decide +kernel
theorem dX0_sort_29 : decode cX0_sort 29 = .ok (.istore_n 2, 1) := by decide +kernel
theorem dX0_sort_30 : decode cX0_sort 30 = .ok (.iload_n 2, 1) := by decide +kernel
theorem dX0_sort_31 : decode cX0_sort 31 = .ok (.aload_n 0, 1) := by decide +kernel
theorem dX0_sort_32 : decode cX0_sort 32 = .ok (.getfield 23, 3) := by decide +kernel
theorem dX0_sort_35 : decode cX0_sort 35 = .ok (.if_icmp .ge 38, 3) := by decide +kernel
theorem dX0_sort_38 : decode cX0_sort 38 = .ok (.aload_n 0, 1) := by decide +kernel
theorem dX0_sort_39 : decode cX0_sort 39 = .ok (.getfield 13, 3) := by decide +kernel
theorem dX0_sort_42 : decode cX0_sort 42 = .ok (.iload_n 1, 1) := by decide +kernel
theorem dX0_sort_43 : decode cX0_sort 43 = .ok (.dup2, 1) := by decide +kernel
theorem dX0_sort_44 : decode cX0_sort 44 = .ok (.laload, 1) := by decide +kernel
theorem dX0_sort_45 : decode cX0_sort 45 = .ok (.aload_n 0, 1) := by decide +kernel
theorem dX0_sort_46 : decode cX0_sort 46 = .ok (.getfield 7, 3) := by decide +kernel
theorem dX0_sort_49 : decode cX0_sort 49 = .ok (.iload_n 2, 1) := by decide +kernel
theorem dX0_sort_50 : decode cX0_sort 50 = .ok (.iaload, 1) := by decide +kernel
theorem dX0_sort_51 : decode cX0_sort 51 = .ok (.iload_n 1, 1) := by decide +kernel
theorem dX0_sort_52 : decode cX0_sort 52 = .ok (.iushr, 1) := by decide +kernel
theorem dX0_sort_53 : decode cX0_sort 53 = .ok (.iconst 1, 1) := by decide +kernel
theorem dX0_sort_54 : decode cX0_sort 54 = .ok (.iand, 1) := by decide +kernel
theorem dX0_sort_55 : decode cX0_sort 55 = .ok (.ifCond .ne 9, 3) := by decide +kernel
theorem dX0_sort_58 : decode cX0_sort 58 = .ok (.lconst 1, 1) := by decide +kernel
theorem dX0_sort_59 : decode cX0_sort 59 = .ok (.iload_n 2, 1) := by decide +kernel
theorem dX0_sort_60 : decode cX0_sort 60 = .ok (.lshl, 1) := by decide +kernel
theorem dX0_sort_61 : decode cX0_sort 61 = .ok (.goto 4, 3) := by decide +kernel
theorem dX0_sort_64 : decode cX0_sort 64 = .ok (.lconst 0, 1) := by decide +kernel
theorem dX0_sort_65 : decode cX0_sort 65 = .ok (.lor, 1) := by decide +kernel
theorem dX0_sort_66 : decode cX0_sort 66 = .ok (.lastore, 1) := by decide +kernel
theorem dX0_sort_67 : decode cX0_sort 67 = .ok (.iinc 2 1, 3) := by decide +kernel
theorem dX0_sort_70 : decode cX0_sort 70 = .ok (.goto (-40), 3) := by decide +kernel
theorem dX0_sort_73 : decode cX0_sort 73 = .ok (.iinc 1 1, 3) := by decide +kernel
theorem dX0_sort_76 : decode cX0_sort 76 = .ok (.goto (-61), 3) := by decide +kernel
theorem dX0_sort_79 : decode cX0_sort 79 = .ok (.return_, 1) := by decide +kernel
abbrev cX0_ones : ByteArray := prog_1_method_13_code
def yX0_ones : MethodName := ⟨RX0, "ones", "(J)I"⟩
theorem dX0_ones_0 : decode cX0_ones 0 = .ok (.iconst 0, 1) := by decide +kernel
theorem dX0_ones_1 : decode cX0_ones 1 = .ok (.istore_n 2, 1) := by decide +kernel
theorem dX0_ones_2 : decode cX0_ones 2 = .ok (.iconst 0, 1) := by decide +kernel
theorem dX0_ones_3 : decode cX0_ones 3 = .ok (.istore_n 3, 1) := by decide +kernel
theorem dX0_ones_4 : decode cX0_ones 4 = .ok (.iload_n 3, 1) := by decide +kernel
theorem dX0_ones_5 : decode cX0_ones 5 = .ok (.bipush 40, 2) := by decide +kernel
theorem dX0_ones_7 : decode cX0_ones 7 = .ok (.if_icmp .ge 18, 3) := by decide +kernel
theorem dX0_ones_10 : decode cX0_ones 10 = .ok (.iload_n 2, 1) := by decide +kernel
theorem dX0_ones_11 : decode cX0_ones 11 = .ok (.lload_n 0, 1) := by decide +kernel
theorem dX0_ones_12 : decode cX0_ones 12 = .ok (.iload_n 3, 1) := by decide +kernel
theorem dX0_ones_13 : decode cX0_ones 13 = .ok (.lushr, 1) := by decide +kernel
theorem dX0_ones_14 : decode cX0_ones 14 = .ok (.l2i, 1) := by decide +kernel
theorem dX0_ones_15 : decode cX0_ones 15 = .ok (.iconst 1, 1) := by decide +kernel
theorem dX0_ones_16 : decode cX0_ones 16 = .ok (.iand, 1) := by decide +kernel
theorem dX0_ones_17 : decode cX0_ones 17 = .ok (.iadd, 1) := by decide +kernel
theorem dX0_ones_18 : decode cX0_ones 18 = .ok (.istore_n 2, 1) := by decide +kernel
theorem dX0_ones_19 : decode cX0_ones 19 = .ok (.iinc 3 1, 3) := by decide +kernel
theorem dX0_ones_22 : decode cX0_ones 22 = .ok (.goto (-18), 3) := by decide +kernel
theorem dX0_ones_25 : decode cX0_ones 25 = .ok (.iload_n 2, 1) := by decide +kernel
theorem dX0_ones_26 : decode cX0_ones 26 = .ok (.ireturn, 1) := by decide +kernel
end
section
set_option maxRecDepth 100000
abbrev cX0_often : ByteArray := prog_1_method_5_code
def yX0_often : MethodName := ⟨RX0, "often", "(I)I"⟩
theorem dX0_often_0 : decode cX0_often 0 = .ok (.iconst 0, 1) := by decide +kernel
theorem dX0_often_1 : decode cX0_often 1 = .ok (.istore_n 2, 1) := by decide +kernel
theorem dX0_often_2 : decode cX0_often 2 = .ok (.aload_n 0, 1) := by decide +kernel
theorem dX0_often_3 : decode cX0_often 3 = .ok (.iload_n 1, 1) := by decide +kernel
theorem dX0_often_4 : decode cX0_often 4 = .ok (.invokevirtual 39, 3) := by decide +kernel
theorem dX0_often_7 : decode cX0_often 7 = .ok (.istore_n 3, 1) := by decide +kernel
theorem dX0_often_8 : decode cX0_often 8 = .ok (.iconst 0, 1) := by decide +kernel
theorem dX0_often_9 : decode cX0_often 9 = .ok (.istore 4, 2) := by decide +kernel
theorem dX0_often_11 : decode cX0_often 11 = .ok (.iload 4, 2) := by decide +kernel
theorem dX0_often_13 : decode cX0_often 13 = .ok (.sipush 256, 3) := by decide +kernel
theorem dX0_often_16 : decode cX0_often 16 = .ok (.if_icmp .ge 22, 3) := by decide +kernel
theorem dX0_often_19 : decode cX0_often 19 = .ok (.iload_n 3, 1) := by decide +kernel
theorem dX0_often_20 : decode cX0_often 20 = .ok (.ifCond .eq 18, 3) := by decide +kernel
theorem dX0_often_23 : decode cX0_often 23 = .ok (.iinc 2 1, 3) := by decide +kernel
theorem dX0_often_26 : decode cX0_often 26 = .ok (.aload_n 0, 1) := by decide +kernel
theorem dX0_often_27 : decode cX0_often 27 = .ok (.iload_n 1, 1) := by decide +kernel
theorem dX0_often_28 : decode cX0_often 28 = .ok (.invokevirtual 43, 3) := by decide +kernel
theorem dX0_often_31 : decode cX0_often 31 = .ok (.istore_n 3, 1) := by decide +kernel
theorem dX0_often_32 : decode cX0_often 32 = .ok (.iinc 4 1, 3) := by decide +kernel
theorem dX0_often_35 : decode cX0_often 35 = .ok (.goto (-24), 3) := by decide +kernel
theorem dX0_often_38 : decode cX0_often 38 = .ok (.iload_n 2, 1) := by decide +kernel
theorem dX0_often_39 : decode cX0_often 39 = .ok (.ireturn, 1) := by decide +kernel
abbrev cX0_start : ByteArray := prog_1_method_17_code
def yX0_start : MethodName := ⟨RX0, "start", "(I)Z"⟩
theorem dX0_start_0 : decode cX0_start 0 = .ok (.aload_n 0, 1) := by decide +kernel
theorem dX0_start_1 : decode cX0_start 1 = .ok (.invokevirtual 61, 3) := by decide +kernel
theorem dX0_start_4 : decode cX0_start 4 = .ok (.aload_n 0, 1) := by decide +kernel
theorem dX0_start_5 : decode cX0_start 5 = .ok (.iconst 0, 1) := by decide +kernel
theorem dX0_start_6 : decode cX0_start 6 = .ok (.putfield 64, 3) := by decide +kernel
theorem dX0_start_9 : decode cX0_start 9 = .ok (.aload_n 0, 1) := by decide +kernel
theorem dX0_start_10 : decode cX0_start 10 = .ok (.getfield 17, 3) := by decide +kernel
theorem dX0_start_13 : decode cX0_start 13 = .ok (.iconst 0, 1) := by decide +kernel
theorem dX0_start_14 : decode cX0_start 14 = .ok (.lconst 0, 1) := by decide +kernel
theorem dX0_start_15 : decode cX0_start 15 = .ok (.lastore, 1) := by decide +kernel
theorem dX0_start_16 : decode cX0_start 16 = .ok (.aload_n 0, 1) := by decide +kernel
theorem dX0_start_17 : decode cX0_start 17 = .ok (.getfield 20, 3) := by decide +kernel
theorem dX0_start_20 : decode cX0_start 20 = .ok (.iconst 0, 1) := by decide +kernel
theorem dX0_start_21 : decode cX0_start 21 = .ok (.iconst (-1), 1) := by decide +kernel
theorem dX0_start_22 : decode cX0_start 22 = .ok (.iastore, 1) := by decide +kernel
theorem dX0_start_23 : decode cX0_start 23 = .ok (.aload_n 0, 1) := by decide +kernel
theorem dX0_start_24 : decode cX0_start 24 = .ok (.iconst 0, 1) := by decide +kernel
theorem dX0_start_25 : decode cX0_start 25 = .ok (.putfield 50, 3) := by decide +kernel
theorem dX0_start_28 : decode cX0_start 28 = .ok (.iload_n 1, 1) := by decide +kernel
theorem dX0_start_29 : decode cX0_start 29 = .ok (.iconst 1, 1) := by decide +kernel
theorem dX0_start_30 : decode cX0_start 30 = .ok (.if_icmp .lt 15, 3) := by decide +kernel
theorem dX0_start_33 : decode cX0_start 33 = .ok (.aload_n 0, 1) := by decide +kernel
theorem dX0_start_34 : decode cX0_start 34 = .ok (.iload_n 1, 1) := by decide +kernel
theorem dX0_start_35 : decode cX0_start 35 = .ok (.invokevirtual 43, 3) := by decide +kernel
theorem dX0_start_38 : decode cX0_start 38 = .ok (.ifCond .eq 7, 3) := by decide +kernel
theorem dX0_start_41 : decode cX0_start 41 = .ok (.iconst 1, 1) := by decide +kernel
theorem dX0_start_42 : decode cX0_start 42 = .ok (.goto 4, 3) := by decide +kernel
theorem dX0_start_45 : decode cX0_start 45 = .ok (.iconst 0, 1) := by decide +kernel
theorem dX0_start_46 : decode cX0_start 46 = .ok (.ireturn, 1) := by decide +kernel
abbrev cX0_goOn : ByteArray := prog_1_method_18_code
def yX0_goOn : MethodName := ⟨RX0, "goOn", "(I)Z"⟩
theorem dX0_goOn_0 : decode cX0_goOn 0 = .ok (.aload_n 0, 1) := by decide +kernel
theorem dX0_goOn_1 : decode cX0_goOn 1 = .ok (.getfield 64, 3) := by decide +kernel
theorem dX0_goOn_4 : decode cX0_goOn 4 = .ok (.bipush 8, 2) := by decide +kernel
theorem dX0_goOn_6 : decode cX0_goOn 6 = .ok (.if_icmp .ne 9, 3) := by decide +kernel
theorem dX0_goOn_9 : decode cX0_goOn 9 = .ok (.aload_n 0, 1) := by decide +kernel
theorem dX0_goOn_10 : decode cX0_goOn 10 = .ok (.bipush 7, 2) := by decide +kernel
theorem dX0_goOn_12 : decode cX0_goOn 12 = .ok (.putfield 64, 3) := by decide +kernel
theorem dX0_goOn_15 : decode cX0_goOn 15 = .ok (.iconst 0, 1) := by decide +kernel
theorem dX0_goOn_16 : decode cX0_goOn 16 = .ok (.istore_n 2, 1) := by decide +kernel
theorem dX0_goOn_17 : decode cX0_goOn 17 = .ok (.iload_n 2, 1) := by decide +kernel
theorem dX0_goOn_18 : decode cX0_goOn 18 = .ok (.sipush 1600, 3) := by decide +kernel
theorem dX0_goOn_21 : decode cX0_goOn 21 = .ok (.if_icmp .ge 48, 3) := by decide +kernel
theorem dX0_goOn_24 : decode cX0_goOn 24 = .ok (.aload_n 0, 1) := by decide +kernel
theorem dX0_goOn_25 : decode cX0_goOn 25 = .ok (.getfield 64, 3) := by decide +kernel
theorem dX0_goOn_28 : decode cX0_goOn 28 = .ok (.ifCond .lt 41, 3) := by decide +kernel
theorem dX0_goOn_31 : decode cX0_goOn 31 = .ok (.aload_n 0, 1) := by decide +kernel
theorem dX0_goOn_32 : decode cX0_goOn 32 = .ok (.getfield 64, 3) := by decide +kernel
theorem dX0_goOn_35 : decode cX0_goOn 35 = .ok (.bipush 8, 2) := by decide +kernel
theorem dX0_goOn_37 : decode cX0_goOn 37 = .ok (.if_icmp .ne 21, 3) := by decide +kernel
theorem dX0_goOn_40 : decode cX0_goOn 40 = .ok (.aload_n 0, 1) := by decide +kernel
theorem dX0_goOn_41 : decode cX0_goOn 41 = .ok (.getfield 50, 3) := by decide +kernel
theorem dX0_goOn_44 : decode cX0_goOn 44 = .ok (.ifCond .eq 5, 3) := by decide +kernel
theorem dX0_goOn_47 : decode cX0_goOn 47 = .ok (.iconst 1, 1) := by decide +kernel
theorem dX0_goOn_48 : decode cX0_goOn 48 = .ok (.ireturn, 1) := by decide +kernel
theorem dX0_goOn_49 : decode cX0_goOn 49 = .ok (.aload_n 0, 1) := by decide +kernel
theorem dX0_goOn_50 : decode cX0_goOn 50 = .ok (.bipush 7, 2) := by decide +kernel
theorem dX0_goOn_52 : decode cX0_goOn 52 = .ok (.putfield 64, 3) := by decide +kernel
theorem dX0_goOn_55 : decode cX0_goOn 55 = .ok (.goto 8, 3) := by decide +kernel
theorem dX0_goOn_58 : decode cX0_goOn 58 = .ok (.aload_n 0, 1) := by decide +kernel
theorem dX0_goOn_59 : decode cX0_goOn 59 = .ok (.iload_n 1, 1) := by decide +kernel
theorem dX0_goOn_60 : decode cX0_goOn 60 = .ok (.invokevirtual 67, 3) := by decide +kernel
theorem dX0_goOn_63 : decode cX0_goOn 63 = .ok (.iinc 2 1, 3) := by decide +kernel
theorem dX0_goOn_66 : decode cX0_goOn 66 = .ok (.goto (-49), 3) := by decide +kernel
theorem dX0_goOn_69 : decode cX0_goOn 69 = .ok (.iconst 0, 1) := by decide +kernel
theorem dX0_goOn_70 : decode cX0_goOn 70 = .ok (.ireturn, 1) := by decide +kernel
abbrev cX0_choose : ByteArray := prog_1_method_19_code
def yX0_choose : MethodName := ⟨RX0, "choose", "(I)V"⟩
theorem dX0_choose_0 : decode cX0_choose 0 = .ok (.bipush 7, 2) := by decide +kernel
theorem dX0_choose_2 : decode cX0_choose 2 = .ok (.aload_n 0, 1) := by decide +kernel
theorem dX0_choose_3 : decode cX0_choose 3 = .ok (.getfield 64, 3) := by decide +kernel
theorem dX0_choose_6 : decode cX0_choose 6 = .ok (.isub, 1) := by decide +kernel
theorem dX0_choose_7 : decode cX0_choose 7 = .ok (.istore_n 2, 1) := by decide +kernel
theorem dX0_choose_8 : decode cX0_choose 8 = .ok (.aload_n 0, 1) := by decide +kernel
theorem dX0_choose_9 : decode cX0_choose 9 = .ok (.getfield 20, 3) := by decide +kernel
theorem dX0_choose_12 : decode cX0_choose 12 = .ok (.aload_n 0, 1) := by decide +kernel
theorem dX0_choose_13 : decode cX0_choose 13 = .ok (.getfield 64, 3) := by decide +kernel
theorem dX0_choose_16 : decode cX0_choose 16 = .ok (.dup2, 1) := by decide +kernel
theorem dX0_choose_17 : decode cX0_choose 17 = .ok (.iaload, 1) := by decide +kernel
theorem dX0_choose_18 : decode cX0_choose 18 = .ok (.iconst 1, 1) := by decide +kernel
theorem dX0_choose_19 : decode cX0_choose 19 = .ok (.iadd, 1) := by decide +kernel
theorem dX0_choose_20 : decode cX0_choose 20 = .ok (.iastore, 1) := by decide +kernel
theorem dX0_choose_21 : decode cX0_choose 21 = .ok (.aload_n 0, 1) := by decide +kernel
theorem dX0_choose_22 : decode cX0_choose 22 = .ok (.dup, 1) := by decide +kernel
theorem dX0_choose_23 : decode cX0_choose 23 = .ok (.getfield 50, 3) := by decide +kernel
theorem dX0_choose_26 : decode cX0_choose 26 = .ok (.iconst 1, 1) := by decide +kernel
theorem dX0_choose_27 : decode cX0_choose 27 = .ok (.iload_n 2, 1) := by decide +kernel
theorem dX0_choose_28 : decode cX0_choose 28 = .ok (.ishl, 1) := by decide +kernel
theorem dX0_choose_29 : decode cX0_choose 29 = .ok (.iconst (-1), 1) := by decide +kernel
theorem dX0_choose_30 : decode cX0_choose 30 = .ok (.ixor, 1) := by decide +kernel
theorem dX0_choose_31 : decode cX0_choose 31 = .ok (.iand, 1) := by decide +kernel
theorem dX0_choose_32 : decode cX0_choose 32 = .ok (.putfield 50, 3) := by decide +kernel
theorem dX0_choose_35 : decode cX0_choose 35 = .ok (.aload_n 0, 1) := by decide +kernel
theorem dX0_choose_36 : decode cX0_choose 36 = .ok (.getfield 20, 3) := by decide +kernel
theorem dX0_choose_39 : decode cX0_choose 39 = .ok (.aload_n 0, 1) := by decide +kernel
theorem dX0_choose_40 : decode cX0_choose 40 = .ok (.getfield 64, 3) := by decide +kernel
theorem dX0_choose_43 : decode cX0_choose 43 = .ok (.iaload, 1) := by decide +kernel
theorem dX0_choose_44 : decode cX0_choose 44 = .ok (.iconst 1, 1) := by decide +kernel
theorem dX0_choose_45 : decode cX0_choose 45 = .ok (.if_icmp .le 14, 3) := by decide +kernel
theorem dX0_choose_48 : decode cX0_choose 48 = .ok (.aload_n 0, 1) := by decide +kernel
theorem dX0_choose_49 : decode cX0_choose 49 = .ok (.dup, 1) := by decide +kernel
theorem dX0_choose_50 : decode cX0_choose 50 = .ok (.getfield 64, 3) := by decide +kernel
theorem dX0_choose_53 : decode cX0_choose 53 = .ok (.iconst 1, 1) := by decide +kernel
theorem dX0_choose_54 : decode cX0_choose 54 = .ok (.isub, 1) := by decide +kernel
theorem dX0_choose_55 : decode cX0_choose 55 = .ok (.putfield 64, 3) := by decide +kernel
theorem dX0_choose_58 : decode cX0_choose 58 = .ok (.return_, 1) := by decide +kernel
theorem dX0_choose_59 : decode cX0_choose 59 = .ok (.aload_n 0, 1) := by decide +kernel
theorem dX0_choose_60 : decode cX0_choose 60 = .ok (.getfield 20, 3) := by decide +kernel
theorem dX0_choose_63 : decode cX0_choose 63 = .ok (.aload_n 0, 1) := by decide +kernel
theorem dX0_choose_64 : decode cX0_choose 64 = .ok (.getfield 64, 3) := by decide +kernel
theorem dX0_choose_67 : decode cX0_choose 67 = .ok (.iaload, 1) := by decide +kernel
theorem dX0_choose_68 : decode cX0_choose 68 = .ok (.ifCond .ne 15, 3) := by decide +kernel
theorem dX0_choose_71 : decode cX0_choose 71 = .ok (.aload_n 0, 1) := by decide +kernel
theorem dX0_choose_72 : decode cX0_choose 72 = .ok (.getfield 17, 3) := by decide +kernel
theorem dX0_choose_75 : decode cX0_choose 75 = .ok (.aload_n 0, 1) := by decide +kernel
theorem dX0_choose_76 : decode cX0_choose 76 = .ok (.getfield 64, 3) := by decide +kernel
theorem dX0_choose_79 : decode cX0_choose 79 = .ok (.laload, 1) := by decide +kernel
theorem dX0_choose_80 : decode cX0_choose 80 = .ok (.goto 19, 3) := by decide +kernel
theorem dX0_choose_83 : decode cX0_choose 83 = .ok (.aload_n 0, 1) := by decide +kernel
theorem dX0_choose_84 : decode cX0_choose 84 = .ok (.getfield 17, 3) := by decide +kernel
theorem dX0_choose_87 : decode cX0_choose 87 = .ok (.aload_n 0, 1) := by decide +kernel
theorem dX0_choose_88 : decode cX0_choose 88 = .ok (.getfield 64, 3) := by decide +kernel
theorem dX0_choose_91 : decode cX0_choose 91 = .ok (.laload, 1) := by decide +kernel
theorem dX0_choose_92 : decode cX0_choose 92 = .ok (.aload_n 0, 1) := by decide +kernel
theorem dX0_choose_93 : decode cX0_choose 93 = .ok (.getfield 13, 3) := by decide +kernel
theorem dX0_choose_96 : decode cX0_choose 96 = .ok (.iload_n 2, 1) := by decide +kernel
theorem dX0_choose_97 : decode cX0_choose 97 = .ok (.laload, 1) := by decide +kernel
theorem dX0_choose_98 : decode cX0_choose 98 = .ok (.lor, 1) := by decide +kernel
theorem dX0_choose_99 : decode cX0_choose 99 = .ok (.lstore_n 3, 1) := by decide +kernel
theorem dX0_choose_100 : decode cX0_choose 100 = .ok (.aload_n 0, 1) := by decide +kernel
theorem dX0_choose_101 : decode cX0_choose 101 = .ok (.getfield 23, 3) := by decide +kernel
theorem dX0_choose_104 : decode cX0_choose 104 = .ok (.lload_n 3, 1) := by decide +kernel
theorem dX0_choose_105 : decode cX0_choose 105 = .ok (.invokestatic 35, 3) := by decide +kernel
theorem dX0_choose_108 : decode cX0_choose 108 = .ok (.isub, 1) := by decide +kernel
theorem dX0_choose_109 : decode cX0_choose 109 = .ok (.iload_n 1, 1) := by decide +kernel
theorem dX0_choose_110 : decode cX0_choose 110 = .ok (.if_icmp .lt 55, 3) := by decide +kernel
theorem dX0_choose_113 : decode cX0_choose 113 = .ok (.aload_n 0, 1) := by decide +kernel
theorem dX0_choose_114 : decode cX0_choose 114 = .ok (.dup, 1) := by decide +kernel
theorem dX0_choose_115 : decode cX0_choose 115 = .ok (.getfield 50, 3) := by decide +kernel
theorem dX0_choose_118 : decode cX0_choose 118 = .ok (.aload_n 0, 1) := by decide +kernel
theorem dX0_choose_119 : decode cX0_choose 119 = .ok (.getfield 20, 3) := by decide +kernel
theorem dX0_choose_122 : decode cX0_choose 122 = .ok (.aload_n 0, 1) := by decide +kernel
theorem dX0_choose_123 : decode cX0_choose 123 = .ok (.getfield 64, 3) := by decide +kernel
theorem dX0_choose_126 : decode cX0_choose 126 = .ok (.iaload, 1) := by decide +kernel
theorem dX0_choose_127 : decode cX0_choose 127 = .ok (.iload_n 2, 1) := by decide +kernel
theorem dX0_choose_128 : decode cX0_choose 128 = .ok (.ishl, 1) := by decide +kernel
theorem dX0_choose_129 : decode cX0_choose 129 = .ok (.ior, 1) := by decide +kernel
theorem dX0_choose_130 : decode cX0_choose 130 = .ok (.putfield 50, 3) := by decide +kernel
theorem dX0_choose_133 : decode cX0_choose 133 = .ok (.aload_n 0, 1) := by decide +kernel
theorem dX0_choose_134 : decode cX0_choose 134 = .ok (.getfield 17, 3) := by decide +kernel
theorem dX0_choose_137 : decode cX0_choose 137 = .ok (.aload_n 0, 1) := by decide +kernel
theorem dX0_choose_138 : decode cX0_choose 138 = .ok (.getfield 64, 3) := by decide +kernel
theorem dX0_choose_141 : decode cX0_choose 141 = .ok (.iconst 1, 1) := by decide +kernel
theorem dX0_choose_142 : decode cX0_choose 142 = .ok (.iadd, 1) := by decide +kernel
theorem dX0_choose_143 : decode cX0_choose 143 = .ok (.lload_n 3, 1) := by decide +kernel
theorem dX0_choose_144 : decode cX0_choose 144 = .ok (.lastore, 1) := by decide +kernel
theorem dX0_choose_145 : decode cX0_choose 145 = .ok (.aload_n 0, 1) := by decide +kernel
theorem dX0_choose_146 : decode cX0_choose 146 = .ok (.dup, 1) := by decide +kernel
theorem dX0_choose_147 : decode cX0_choose 147 = .ok (.getfield 64, 3) := by decide +kernel
theorem dX0_choose_150 : decode cX0_choose 150 = .ok (.iconst 1, 1) := by decide +kernel
theorem dX0_choose_151 : decode cX0_choose 151 = .ok (.iadd, 1) := by decide +kernel
theorem dX0_choose_152 : decode cX0_choose 152 = .ok (.putfield 64, 3) := by decide +kernel
theorem dX0_choose_155 : decode cX0_choose 155 = .ok (.aload_n 0, 1) := by decide +kernel
theorem dX0_choose_156 : decode cX0_choose 156 = .ok (.getfield 20, 3) := by decide +kernel
theorem dX0_choose_159 : decode cX0_choose 159 = .ok (.aload_n 0, 1) := by decide +kernel
theorem dX0_choose_160 : decode cX0_choose 160 = .ok (.getfield 64, 3) := by decide +kernel
theorem dX0_choose_163 : decode cX0_choose 163 = .ok (.iconst (-1), 1) := by decide +kernel
theorem dX0_choose_164 : decode cX0_choose 164 = .ok (.iastore, 1) := by decide +kernel
theorem dX0_choose_165 : decode cX0_choose 165 = .ok (.return_, 1) := by decide +kernel
abbrev cX0_full : ByteArray := prog_1_method_6_code
def yX0_full : MethodName := ⟨RX0, "full", "(I)I"⟩
theorem dX0_full_0 : decode cX0_full 0 = .ok (.iconst 0, 1) := by decide +kernel
theorem dX0_full_1 : decode cX0_full 1 = .ok (.istore_n 2, 1) := by decide +kernel
theorem dX0_full_2 : decode cX0_full 2 = .ok (.aload_n 0, 1) := by decide +kernel
theorem dX0_full_3 : decode cX0_full 3 = .ok (.iload_n 1, 1) := by decide +kernel
theorem dX0_full_4 : decode cX0_full 4 = .ok (.invokevirtual 39, 3) := by decide +kernel
theorem dX0_full_7 : decode cX0_full 7 = .ok (.istore_n 3, 1) := by decide +kernel
theorem dX0_full_8 : decode cX0_full 8 = .ok (.iconst 0, 1) := by decide +kernel
theorem dX0_full_9 : decode cX0_full 9 = .ok (.istore 4, 2) := by decide +kernel
theorem dX0_full_11 : decode cX0_full 11 = .ok (.iload 4, 2) := by decide +kernel
theorem dX0_full_13 : decode cX0_full 13 = .ok (.sipush 256, 3) := by decide +kernel
theorem dX0_full_16 : decode cX0_full 16 = .ok (.if_icmp .ge 34, 3) := by decide +kernel
theorem dX0_full_19 : decode cX0_full 19 = .ok (.iload_n 3, 1) := by decide +kernel
theorem dX0_full_20 : decode cX0_full 20 = .ok (.ifCond .eq 30, 3) := by decide +kernel
theorem dX0_full_23 : decode cX0_full 23 = .ok (.iload_n 2, 1) := by decide +kernel
theorem dX0_full_24 : decode cX0_full 24 = .ok (.aload_n 0, 1) := by decide +kernel
theorem dX0_full_25 : decode cX0_full 25 = .ok (.invokevirtual 46, 3) := by decide +kernel
theorem dX0_full_28 : decode cX0_full 28 = .ok (.ifCond .le 7, 3) := by decide +kernel
theorem dX0_full_31 : decode cX0_full 31 = .ok (.iconst 1, 1) := by decide +kernel
theorem dX0_full_32 : decode cX0_full 32 = .ok (.goto 4, 3) := by decide +kernel
theorem dX0_full_35 : decode cX0_full 35 = .ok (.iconst 0, 1) := by decide +kernel
theorem dX0_full_36 : decode cX0_full 36 = .ok (.iadd, 1) := by decide +kernel
theorem dX0_full_37 : decode cX0_full 37 = .ok (.istore_n 2, 1) := by decide +kernel
theorem dX0_full_38 : decode cX0_full 38 = .ok (.aload_n 0, 1) := by decide +kernel
theorem dX0_full_39 : decode cX0_full 39 = .ok (.iload_n 1, 1) := by decide +kernel
theorem dX0_full_40 : decode cX0_full 40 = .ok (.invokevirtual 43, 3) := by decide +kernel
theorem dX0_full_43 : decode cX0_full 43 = .ok (.istore_n 3, 1) := by decide +kernel
theorem dX0_full_44 : decode cX0_full 44 = .ok (.iinc 4 1, 3) := by decide +kernel
theorem dX0_full_47 : decode cX0_full 47 = .ok (.goto (-36), 3) := by decide +kernel
theorem dX0_full_50 : decode cX0_full 50 = .ok (.iload_n 2, 1) := by decide +kernel
theorem dX0_full_51 : decode cX0_full 51 = .ok (.ireturn, 1) := by decide +kernel
end
section
set_option maxRecDepth 100000
abbrev cX0_leastLoss : ByteArray := prog_1_method_16_code
def yX0_leastLoss : MethodName := ⟨RX0, "leastLoss", "()I"⟩
theorem dX0_leastLoss_0 : decode cX0_leastLoss 0 = .ok (.bipush 41, 2) := by decide +kernel
theorem dX0_leastLoss_2 : decode cX0_leastLoss 2 = .ok (.istore_n 1, 1) := by decide +kernel
theorem dX0_leastLoss_3 : decode cX0_leastLoss 3 = .ok (.iconst 0, 1) := by decide +kernel
theorem dX0_leastLoss_4 : decode cX0_leastLoss 4 = .ok (.istore_n 2, 1) := by decide +kernel
theorem dX0_leastLoss_5 : decode cX0_leastLoss 5 = .ok (.iload_n 2, 1) := by decide +kernel
theorem dX0_leastLoss_6 : decode cX0_leastLoss 6 = .ok (.bipush 8, 2) := by decide +kernel
theorem dX0_leastLoss_8 : decode cX0_leastLoss 8 = .ok (.if_icmp .ge 53, 3) := by decide +kernel
theorem dX0_leastLoss_11 : decode cX0_leastLoss 11 = .ok (.aload_n 0, 1) := by decide +kernel
theorem dX0_leastLoss_12 : decode cX0_leastLoss 12 = .ok (.getfield 50, 3) := by decide +kernel
theorem dX0_leastLoss_15 : decode cX0_leastLoss 15 = .ok (.iload_n 2, 1) := by decide +kernel
theorem dX0_leastLoss_16 : decode cX0_leastLoss 16 = .ok (.iushr, 1) := by decide +kernel
theorem dX0_leastLoss_17 : decode cX0_leastLoss 17 = .ok (.iconst 1, 1) := by decide +kernel
theorem dX0_leastLoss_18 : decode cX0_leastLoss 18 = .ok (.iand, 1) := by decide +kernel
theorem dX0_leastLoss_19 : decode cX0_leastLoss 19 = .ok (.ifCond .ne 36, 3) := by decide +kernel
theorem dX0_leastLoss_22 : decode cX0_leastLoss 22 = .ok (.aload_n 0, 1) := by decide +kernel
theorem dX0_leastLoss_23 : decode cX0_leastLoss 23 = .ok (.getfield 13, 3) := by decide +kernel
theorem dX0_leastLoss_26 : decode cX0_leastLoss 26 = .ok (.iload_n 2, 1) := by decide +kernel
theorem dX0_leastLoss_27 : decode cX0_leastLoss 27 = .ok (.laload, 1) := by decide +kernel
theorem dX0_leastLoss_28 : decode cX0_leastLoss 28 = .ok (.aload_n 0, 1) := by decide +kernel
theorem dX0_leastLoss_29 : decode cX0_leastLoss 29 = .ok (.getfield 17, 3) := by decide +kernel
theorem dX0_leastLoss_32 : decode cX0_leastLoss 32 = .ok (.bipush 8, 2) := by decide +kernel
theorem dX0_leastLoss_34 : decode cX0_leastLoss 34 = .ok (.laload, 1) := by decide +kernel
theorem dX0_leastLoss_35 : decode cX0_leastLoss 35 = .ok (.ldc2_w 53, 3) := by decide +kernel
theorem dX0_leastLoss_38 : decode cX0_leastLoss 38 = .ok (.lxor, 1) := by decide +kernel
theorem dX0_leastLoss_39 : decode cX0_leastLoss 39 = .ok (.land, 1) := by decide +kernel
theorem dX0_leastLoss_40 : decode cX0_leastLoss 40 = .ok (.invokestatic 35, 3) := by decide +kernel
theorem dX0_leastLoss_43 : decode cX0_leastLoss 43 = .ok (.istore_n 3, 1) := by decide +kernel
theorem dX0_leastLoss_44 : decode cX0_leastLoss 44 = .ok (.iload_n 3, 1) := by decide +kernel
theorem dX0_leastLoss_45 : decode cX0_leastLoss 45 = .ok (.iload_n 1, 1) := by decide +kernel
theorem dX0_leastLoss_46 : decode cX0_leastLoss 46 = .ok (.if_icmp .ge 7, 3) := by decide +kernel
theorem dX0_leastLoss_49 : decode cX0_leastLoss 49 = .ok (.iload_n 3, 1) := by decide +kernel
theorem dX0_leastLoss_50 : decode cX0_leastLoss 50 = .ok (.goto 4, 3) := by decide +kernel
theorem dX0_leastLoss_53 : decode cX0_leastLoss 53 = .ok (.iload_n 1, 1) := by decide +kernel
theorem dX0_leastLoss_54 : decode cX0_leastLoss 54 = .ok (.istore_n 1, 1) := by decide +kernel
theorem dX0_leastLoss_55 : decode cX0_leastLoss 55 = .ok (.iinc 2 1, 3) := by decide +kernel
theorem dX0_leastLoss_58 : decode cX0_leastLoss 58 = .ok (.goto (-53), 3) := by decide +kernel
theorem dX0_leastLoss_61 : decode cX0_leastLoss 61 = .ok (.iload_n 1, 1) := by decide +kernel
theorem dX0_leastLoss_62 : decode cX0_leastLoss 62 = .ok (.ireturn, 1) := by decide +kernel
abbrev cX0_largest : ByteArray := prog_1_method_7_code
def yX0_largest : MethodName := ⟨RX0, "largest", "(I)I"⟩
theorem dX0_largest_0 : decode cX0_largest 0 = .ok (.iconst 0, 1) := by decide +kernel
theorem dX0_largest_1 : decode cX0_largest 1 = .ok (.istore_n 2, 1) := by decide +kernel
theorem dX0_largest_2 : decode cX0_largest 2 = .ok (.aload_n 0, 1) := by decide +kernel
theorem dX0_largest_3 : decode cX0_largest 3 = .ok (.iload_n 1, 1) := by decide +kernel
theorem dX0_largest_4 : decode cX0_largest 4 = .ok (.invokevirtual 39, 3) := by decide +kernel
theorem dX0_largest_7 : decode cX0_largest 7 = .ok (.istore_n 3, 1) := by decide +kernel
theorem dX0_largest_8 : decode cX0_largest 8 = .ok (.iconst 0, 1) := by decide +kernel
theorem dX0_largest_9 : decode cX0_largest 9 = .ok (.istore 4, 2) := by decide +kernel
theorem dX0_largest_11 : decode cX0_largest 11 = .ok (.iload 4, 2) := by decide +kernel
theorem dX0_largest_13 : decode cX0_largest 13 = .ok (.sipush 256, 3) := by decide +kernel
theorem dX0_largest_16 : decode cX0_largest 16 = .ok (.if_icmp .ge 55, 3) := by decide +kernel
theorem dX0_largest_19 : decode cX0_largest 19 = .ok (.iload_n 3, 1) := by decide +kernel
theorem dX0_largest_20 : decode cX0_largest 20 = .ok (.ifCond .eq 51, 3) := by decide +kernel
theorem dX0_largest_23 : decode cX0_largest 23 = .ok (.aload_n 0, 1) := by decide +kernel
theorem dX0_largest_24 : decode cX0_largest 24 = .ok (.getfield 23, 3) := by decide +kernel
theorem dX0_largest_27 : decode cX0_largest 27 = .ok (.aload_n 0, 1) := by decide +kernel
theorem dX0_largest_28 : decode cX0_largest 28 = .ok (.getfield 17, 3) := by decide +kernel
theorem dX0_largest_31 : decode cX0_largest 31 = .ok (.bipush 8, 2) := by decide +kernel
theorem dX0_largest_33 : decode cX0_largest 33 = .ok (.laload, 1) := by decide +kernel
theorem dX0_largest_34 : decode cX0_largest 34 = .ok (.invokestatic 35, 3) := by decide +kernel
theorem dX0_largest_37 : decode cX0_largest 37 = .ok (.isub, 1) := by decide +kernel
theorem dX0_largest_38 : decode cX0_largest 38 = .ok (.aload_n 0, 1) := by decide +kernel
theorem dX0_largest_39 : decode cX0_largest 39 = .ok (.invokevirtual 46, 3) := by decide +kernel
theorem dX0_largest_42 : decode cX0_largest 42 = .ok (.isub, 1) := by decide +kernel
theorem dX0_largest_43 : decode cX0_largest 43 = .ok (.istore 5, 2) := by decide +kernel
theorem dX0_largest_45 : decode cX0_largest 45 = .ok (.iload_n 2, 1) := by decide +kernel
theorem dX0_largest_46 : decode cX0_largest 46 = .ok (.iload 5, 2) := by decide +kernel
theorem dX0_largest_48 : decode cX0_largest 48 = .ok (.iload_n 1, 1) := by decide +kernel
theorem dX0_largest_49 : decode cX0_largest 49 = .ok (.if_icmp .ge 7, 3) := by decide +kernel
theorem dX0_largest_52 : decode cX0_largest 52 = .ok (.iconst 1, 1) := by decide +kernel
theorem dX0_largest_53 : decode cX0_largest 53 = .ok (.goto 4, 3) := by decide +kernel
theorem dX0_largest_56 : decode cX0_largest 56 = .ok (.iconst 0, 1) := by decide +kernel
theorem dX0_largest_57 : decode cX0_largest 57 = .ok (.iadd, 1) := by decide +kernel
theorem dX0_largest_58 : decode cX0_largest 58 = .ok (.istore_n 2, 1) := by decide +kernel
theorem dX0_largest_59 : decode cX0_largest 59 = .ok (.aload_n 0, 1) := by decide +kernel
theorem dX0_largest_60 : decode cX0_largest 60 = .ok (.iload_n 1, 1) := by decide +kernel
theorem dX0_largest_61 : decode cX0_largest 61 = .ok (.invokevirtual 43, 3) := by decide +kernel
theorem dX0_largest_64 : decode cX0_largest 64 = .ok (.istore_n 3, 1) := by decide +kernel
theorem dX0_largest_65 : decode cX0_largest 65 = .ok (.iinc 4 1, 3) := by decide +kernel
theorem dX0_largest_68 : decode cX0_largest 68 = .ok (.goto (-57), 3) := by decide +kernel
theorem dX0_largest_71 : decode cX0_largest 71 = .ok (.iload_n 2, 1) := by decide +kernel
theorem dX0_largest_72 : decode cX0_largest 72 = .ok (.ireturn, 1) := by decide +kernel
abbrev cX0_size : ByteArray := prog_1_method_8_code
def yX0_size : MethodName := ⟨RX0, "size", "(I)I"⟩
theorem dX0_size_0 : decode cX0_size 0 = .ok (.iconst 0, 1) := by decide +kernel
theorem dX0_size_1 : decode cX0_size 1 = .ok (.istore_n 2, 1) := by decide +kernel
theorem dX0_size_2 : decode cX0_size 2 = .ok (.aload_n 0, 1) := by decide +kernel
theorem dX0_size_3 : decode cX0_size 3 = .ok (.iload_n 1, 1) := by decide +kernel
theorem dX0_size_4 : decode cX0_size 4 = .ok (.invokevirtual 39, 3) := by decide +kernel
theorem dX0_size_7 : decode cX0_size 7 = .ok (.istore_n 3, 1) := by decide +kernel
theorem dX0_size_8 : decode cX0_size 8 = .ok (.iconst 0, 1) := by decide +kernel
theorem dX0_size_9 : decode cX0_size 9 = .ok (.istore 4, 2) := by decide +kernel
theorem dX0_size_11 : decode cX0_size 11 = .ok (.iload 4, 2) := by decide +kernel
theorem dX0_size_13 : decode cX0_size 13 = .ok (.sipush 256, 3) := by decide +kernel
theorem dX0_size_16 : decode cX0_size 16 = .ok (.if_icmp .ge 42, 3) := by decide +kernel
theorem dX0_size_19 : decode cX0_size 19 = .ok (.iload_n 3, 1) := by decide +kernel
theorem dX0_size_20 : decode cX0_size 20 = .ok (.ifCond .eq 38, 3) := by decide +kernel
theorem dX0_size_23 : decode cX0_size 23 = .ok (.aload_n 0, 1) := by decide +kernel
theorem dX0_size_24 : decode cX0_size 24 = .ok (.getfield 50, 3) := by decide +kernel
theorem dX0_size_27 : decode cX0_size 27 = .ok (.i2l, 1) := by decide +kernel
theorem dX0_size_28 : decode cX0_size 28 = .ok (.invokestatic 35, 3) := by decide +kernel
theorem dX0_size_31 : decode cX0_size 31 = .ok (.istore 5, 2) := by decide +kernel
theorem dX0_size_33 : decode cX0_size 33 = .ok (.iload 5, 2) := by decide +kernel
theorem dX0_size_35 : decode cX0_size 35 = .ok (.iload_n 2, 1) := by decide +kernel
theorem dX0_size_36 : decode cX0_size 36 = .ok (.if_icmp .le 8, 3) := by decide +kernel
theorem dX0_size_39 : decode cX0_size 39 = .ok (.iload 5, 2) := by decide +kernel
theorem dX0_size_41 : decode cX0_size 41 = .ok (.goto 4, 3) := by decide +kernel
theorem dX0_size_44 : decode cX0_size 44 = .ok (.iload_n 2, 1) := by decide +kernel
theorem dX0_size_45 : decode cX0_size 45 = .ok (.istore_n 2, 1) := by decide +kernel
theorem dX0_size_46 : decode cX0_size 46 = .ok (.aload_n 0, 1) := by decide +kernel
theorem dX0_size_47 : decode cX0_size 47 = .ok (.iload_n 1, 1) := by decide +kernel
theorem dX0_size_48 : decode cX0_size 48 = .ok (.invokevirtual 43, 3) := by decide +kernel
theorem dX0_size_51 : decode cX0_size 51 = .ok (.istore_n 3, 1) := by decide +kernel
theorem dX0_size_52 : decode cX0_size 52 = .ok (.iinc 4 1, 3) := by decide +kernel
theorem dX0_size_55 : decode cX0_size 55 = .ok (.goto (-44), 3) := by decide +kernel
theorem dX0_size_58 : decode cX0_size 58 = .ok (.iload_n 2, 1) := by decide +kernel
theorem dX0_size_59 : decode cX0_size 59 = .ok (.ireturn, 1) := by decide +kernel
abbrev cX0_next : ByteArray := prog_1_method_9_code
def yX0_next : MethodName := ⟨RX0, "next", "(II)I"⟩
theorem dX0_next_0 : decode cX0_next 0 = .ok (.aload_n 0, 1) := by decide +kernel
theorem dX0_next_1 : decode cX0_next 1 = .ok (.iload_n 1, 1) := by decide +kernel
theorem dX0_next_2 : decode cX0_next 2 = .ok (.invokevirtual 39, 3) := by decide +kernel
theorem dX0_next_5 : decode cX0_next 5 = .ok (.istore_n 3, 1) := by decide +kernel
theorem dX0_next_6 : decode cX0_next 6 = .ok (.iconst 0, 1) := by decide +kernel
theorem dX0_next_7 : decode cX0_next 7 = .ok (.istore 4, 2) := by decide +kernel
theorem dX0_next_9 : decode cX0_next 9 = .ok (.iload 4, 2) := by decide +kernel
theorem dX0_next_11 : decode cX0_next 11 = .ok (.sipush 256, 3) := by decide +kernel
theorem dX0_next_14 : decode cX0_next 14 = .ok (.if_icmp .ge 32, 3) := by decide +kernel
theorem dX0_next_17 : decode cX0_next 17 = .ok (.iload_n 3, 1) := by decide +kernel
theorem dX0_next_18 : decode cX0_next 18 = .ok (.ifCond .eq 28, 3) := by decide +kernel
theorem dX0_next_21 : decode cX0_next 21 = .ok (.aload_n 0, 1) := by decide +kernel
theorem dX0_next_22 : decode cX0_next 22 = .ok (.getfield 50, 3) := by decide +kernel
theorem dX0_next_25 : decode cX0_next 25 = .ok (.iload_n 2, 1) := by decide +kernel
theorem dX0_next_26 : decode cX0_next 26 = .ok (.if_icmp .lt 8, 3) := by decide +kernel
theorem dX0_next_29 : decode cX0_next 29 = .ok (.aload_n 0, 1) := by decide +kernel
theorem dX0_next_30 : decode cX0_next 30 = .ok (.getfield 50, 3) := by decide +kernel
theorem dX0_next_33 : decode cX0_next 33 = .ok (.ireturn, 1) := by decide +kernel
theorem dX0_next_34 : decode cX0_next 34 = .ok (.aload_n 0, 1) := by decide +kernel
theorem dX0_next_35 : decode cX0_next 35 = .ok (.iload_n 1, 1) := by decide +kernel
theorem dX0_next_36 : decode cX0_next 36 = .ok (.invokevirtual 43, 3) := by decide +kernel
theorem dX0_next_39 : decode cX0_next 39 = .ok (.istore_n 3, 1) := by decide +kernel
theorem dX0_next_40 : decode cX0_next 40 = .ok (.iinc 4 1, 3) := by decide +kernel
theorem dX0_next_43 : decode cX0_next 43 = .ok (.goto (-34), 3) := by decide +kernel
theorem dX0_next_46 : decode cX0_next 46 = .ok (.iconst (-1), 1) := by decide +kernel
theorem dX0_next_47 : decode cX0_next 47 = .ok (.ireturn, 1) := by decide +kernel
abbrev cX0_closure : ByteArray := prog_1_method_10_code
def yX0_closure : MethodName := ⟨RX0, "closure", "(I)I"⟩
theorem dX0_closure_0 : decode cX0_closure 0 = .ok (.aload_n 0, 1) := by decide +kernel
theorem dX0_closure_1 : decode cX0_closure 1 = .ok (.iload_n 1, 1) := by decide +kernel
theorem dX0_closure_2 : decode cX0_closure 2 = .ok (.invokevirtual 31, 3) := by decide +kernel
theorem dX0_closure_5 : decode cX0_closure 5 = .ok (.lstore_n 2, 1) := by decide +kernel
theorem dX0_closure_6 : decode cX0_closure 6 = .ok (.iload_n 1, 1) := by decide +kernel
theorem dX0_closure_7 : decode cX0_closure 7 = .ok (.sipush 255, 3) := by decide +kernel
theorem dX0_closure_10 : decode cX0_closure 10 = .ok (.iand, 1) := by decide +kernel
theorem dX0_closure_11 : decode cX0_closure 11 = .ok (.istore 4, 2) := by decide +kernel
theorem dX0_closure_13 : decode cX0_closure 13 = .ok (.iconst 0, 1) := by decide +kernel
theorem dX0_closure_14 : decode cX0_closure 14 = .ok (.istore 5, 2) := by decide +kernel
theorem dX0_closure_16 : decode cX0_closure 16 = .ok (.iload 5, 2) := by decide +kernel
theorem dX0_closure_18 : decode cX0_closure 18 = .ok (.bipush 8, 2) := by decide +kernel
theorem dX0_closure_20 : decode cX0_closure 20 = .ok (.if_icmp .ge 40, 3) := by decide +kernel
theorem dX0_closure_23 : decode cX0_closure 23 = .ok (.iload 4, 2) := by decide +kernel
theorem dX0_closure_25 : decode cX0_closure 25 = .ok (.aload_n 0, 1) := by decide +kernel
theorem dX0_closure_26 : decode cX0_closure 26 = .ok (.getfield 13, 3) := by decide +kernel
theorem dX0_closure_29 : decode cX0_closure 29 = .ok (.iload 5, 2) := by decide +kernel
theorem dX0_closure_31 : decode cX0_closure 31 = .ok (.laload, 1) := by decide +kernel
theorem dX0_closure_32 : decode cX0_closure 32 = .ok (.lload_n 2, 1) := by decide +kernel
theorem dX0_closure_33 : decode cX0_closure 33 = .ok (.ldc2_w 53, 3) := by decide +kernel
theorem dX0_closure_36 : decode cX0_closure 36 = .ok (.lxor, 1) := by decide +kernel
theorem dX0_closure_37 : decode cX0_closure 37 = .ok (.land, 1) := by decide +kernel
theorem dX0_closure_38 : decode cX0_closure 38 = .ok (.lconst 0, 1) := by decide +kernel
theorem dX0_closure_39 : decode cX0_closure 39 = .ok (.lcmp, 1) := by decide +kernel
theorem dX0_closure_40 : decode cX0_closure 40 = .ok (.ifCond .ne 10, 3) := by decide +kernel
theorem dX0_closure_43 : decode cX0_closure 43 = .ok (.iconst 1, 1) := by decide +kernel
theorem dX0_closure_44 : decode cX0_closure 44 = .ok (.iload 5, 2) := by decide +kernel
theorem dX0_closure_46 : decode cX0_closure 46 = .ok (.ishl, 1) := by decide +kernel
theorem dX0_closure_47 : decode cX0_closure 47 = .ok (.goto 4, 3) := by decide +kernel
theorem dX0_closure_50 : decode cX0_closure 50 = .ok (.iconst 0, 1) := by decide +kernel
theorem dX0_closure_51 : decode cX0_closure 51 = .ok (.ior, 1) := by decide +kernel
theorem dX0_closure_52 : decode cX0_closure 52 = .ok (.istore 4, 2) := by decide +kernel
theorem dX0_closure_54 : decode cX0_closure 54 = .ok (.iinc 5 1, 3) := by decide +kernel
theorem dX0_closure_57 : decode cX0_closure 57 = .ok (.goto (-41), 3) := by decide +kernel
theorem dX0_closure_60 : decode cX0_closure 60 = .ok (.iload 4, 2) := by decide +kernel
theorem dX0_closure_62 : decode cX0_closure 62 = .ok (.ireturn, 1) := by decide +kernel
abbrev cX0_rules : ByteArray := prog_1_method_11_code
def yX0_rules : MethodName := ⟨RX0, "rules", "(II)I"⟩
theorem dX0_rules_0 : decode cX0_rules 0 = .ok (.iconst 0, 1) := by decide +kernel
theorem dX0_rules_1 : decode cX0_rules 1 = .ok (.istore_n 3, 1) := by decide +kernel
theorem dX0_rules_2 : decode cX0_rules 2 = .ok (.aload_n 0, 1) := by decide +kernel
theorem dX0_rules_3 : decode cX0_rules 3 = .ok (.iload_n 1, 1) := by decide +kernel
theorem dX0_rules_4 : decode cX0_rules 4 = .ok (.invokevirtual 39, 3) := by decide +kernel
theorem dX0_rules_7 : decode cX0_rules 7 = .ok (.istore 4, 2) := by decide +kernel
theorem dX0_rules_9 : decode cX0_rules 9 = .ok (.iconst 0, 1) := by decide +kernel
theorem dX0_rules_10 : decode cX0_rules 10 = .ok (.istore 5, 2) := by decide +kernel
theorem dX0_rules_12 : decode cX0_rules 12 = .ok (.iload 5, 2) := by decide +kernel
theorem dX0_rules_14 : decode cX0_rules 14 = .ok (.sipush 256, 3) := by decide +kernel
theorem dX0_rules_17 : decode cX0_rules 17 = .ok (.if_icmp .ge 33, 3) := by decide +kernel
theorem dX0_rules_20 : decode cX0_rules 20 = .ok (.iload 4, 2) := by decide +kernel
theorem dX0_rules_22 : decode cX0_rules 22 = .ok (.ifCond .eq 28, 3) := by decide +kernel
theorem dX0_rules_25 : decode cX0_rules 25 = .ok (.iload_n 3, 1) := by decide +kernel
theorem dX0_rules_26 : decode cX0_rules 26 = .ok (.aload_n 0, 1) := by decide +kernel
theorem dX0_rules_27 : decode cX0_rules 27 = .ok (.aload_n 0, 1) := by decide +kernel
theorem dX0_rules_28 : decode cX0_rules 28 = .ok (.getfield 50, 3) := by decide +kernel
theorem dX0_rules_31 : decode cX0_rules 31 = .ok (.iload_n 2, 1) := by decide +kernel
theorem dX0_rules_32 : decode cX0_rules 32 = .ok (.invokevirtual 55, 3) := by decide +kernel
theorem dX0_rules_35 : decode cX0_rules 35 = .ok (.iadd, 1) := by decide +kernel
theorem dX0_rules_36 : decode cX0_rules 36 = .ok (.istore_n 3, 1) := by decide +kernel
theorem dX0_rules_37 : decode cX0_rules 37 = .ok (.aload_n 0, 1) := by decide +kernel
theorem dX0_rules_38 : decode cX0_rules 38 = .ok (.iload_n 1, 1) := by decide +kernel
theorem dX0_rules_39 : decode cX0_rules 39 = .ok (.invokevirtual 43, 3) := by decide +kernel
theorem dX0_rules_42 : decode cX0_rules 42 = .ok (.istore 4, 2) := by decide +kernel
theorem dX0_rules_44 : decode cX0_rules 44 = .ok (.iinc 5 1, 3) := by decide +kernel
theorem dX0_rules_47 : decode cX0_rules 47 = .ok (.goto (-35), 3) := by decide +kernel
theorem dX0_rules_50 : decode cX0_rules 50 = .ok (.iload_n 3, 1) := by decide +kernel
theorem dX0_rules_51 : decode cX0_rules 51 = .ok (.ireturn, 1) := by decide +kernel
abbrev cX0_rulesWithin : ByteArray := prog_1_method_12_code
def yX0_rulesWithin : MethodName := ⟨RX0, "rulesWithin", "(II)I"⟩
theorem dX0_rulesWithin_0 : decode cX0_rulesWithin 0 = .ok (.ldc2_w 59, 3) := by decide +kernel
theorem dX0_rulesWithin_3 : decode cX0_rulesWithin 3 = .ok (.aload_n 0, 1) := by decide +kernel
theorem dX0_rulesWithin_4 : decode cX0_rulesWithin 4 = .ok (.getfield 23, 3) := by decide +kernel
theorem dX0_rulesWithin_7 : decode cX0_rulesWithin 7 = .ok (.aload_n 0, 1) := by decide +kernel
theorem dX0_rulesWithin_8 : decode cX0_rulesWithin 8 = .ok (.getfield 17, 3) := by decide +kernel
theorem dX0_rulesWithin_11 : decode cX0_rulesWithin 11 = .ok (.bipush 8, 2) := by decide +kernel
theorem dX0_rulesWithin_13 : decode cX0_rulesWithin 13 = .ok (.laload, 1) := by decide +kernel
theorem dX0_rulesWithin_14 : decode cX0_rulesWithin 14 = .ok (.invokestatic 35, 3) := by decide +kernel
theorem dX0_rulesWithin_17 : decode cX0_rulesWithin 17 = .ok (.isub, 1) := by decide +kernel
theorem dX0_rulesWithin_18 : decode cX0_rulesWithin 18 = .ok (.i2l, 1) := by decide +kernel
theorem dX0_rulesWithin_19 : decode cX0_rulesWithin 19 = .ok (.lmul, 1) := by decide +kernel
theorem dX0_rulesWithin_20 : decode cX0_rulesWithin 20 = .ok (.lstore_n 3, 1) := by decide +kernel
theorem dX0_rulesWithin_21 : decode cX0_rulesWithin 21 = .ok (.iconst 0, 1) := by decide +kernel
theorem dX0_rulesWithin_22 : decode cX0_rulesWithin 22 = .ok (.istore 5, 2) := by decide +kernel
theorem dX0_rulesWithin_24 : decode cX0_rulesWithin 24 = .ok (.iload_n 1, 1) := by decide +kernel
theorem dX0_rulesWithin_25 : decode cX0_rulesWithin 25 = .ok (.iconst 1, 1) := by decide +kernel
theorem dX0_rulesWithin_26 : decode cX0_rulesWithin 26 = .ok (.isub, 1) := by decide +kernel
theorem dX0_rulesWithin_27 : decode cX0_rulesWithin 27 = .ok (.iload_n 1, 1) := by decide +kernel
theorem dX0_rulesWithin_28 : decode cX0_rulesWithin 28 = .ok (.iand, 1) := by decide +kernel
theorem dX0_rulesWithin_29 : decode cX0_rulesWithin 29 = .ok (.istore 6, 2) := by decide +kernel
theorem dX0_rulesWithin_31 : decode cX0_rulesWithin 31 = .ok (.iconst 0, 1) := by decide +kernel
theorem dX0_rulesWithin_32 : decode cX0_rulesWithin 32 = .ok (.istore 7, 2) := by decide +kernel
theorem dX0_rulesWithin_34 : decode cX0_rulesWithin 34 = .ok (.iload 7, 2) := by decide +kernel
theorem dX0_rulesWithin_36 : decode cX0_rulesWithin 36 = .ok (.sipush 256, 3) := by decide +kernel
theorem dX0_rulesWithin_39 : decode cX0_rulesWithin 39 = .ok (.if_icmp .ge 63, 3) := by decide +kernel
theorem dX0_rulesWithin_42 : decode cX0_rulesWithin 42 = .ok (.iload 6, 2) := by decide +kernel
theorem dX0_rulesWithin_44 : decode cX0_rulesWithin 44 = .ok (.ifCond .le 58, 3) := by decide +kernel
theorem dX0_rulesWithin_47 : decode cX0_rulesWithin 47 = .ok (.aload_n 0, 1) := by decide +kernel
theorem dX0_rulesWithin_48 : decode cX0_rulesWithin 48 = .ok (.iload 6, 2) := by decide +kernel
theorem dX0_rulesWithin_50 : decode cX0_rulesWithin 50 = .ok (.invokevirtual 31, 3) := by decide +kernel
theorem dX0_rulesWithin_53 : decode cX0_rulesWithin 53 = .ok (.lstore 8, 2) := by decide +kernel
theorem dX0_rulesWithin_55 : decode cX0_rulesWithin 55 = .ok (.aload_n 0, 1) := by decide +kernel
theorem dX0_rulesWithin_56 : decode cX0_rulesWithin 56 = .ok (.getfield 23, 3) := by decide +kernel
theorem dX0_rulesWithin_59 : decode cX0_rulesWithin 59 = .ok (.lload 8, 2) := by decide +kernel
theorem dX0_rulesWithin_61 : decode cX0_rulesWithin 61 = .ok (.invokestatic 35, 3) := by decide +kernel
theorem dX0_rulesWithin_64 : decode cX0_rulesWithin 64 = .ok (.isub, 1) := by decide +kernel
theorem dX0_rulesWithin_65 : decode cX0_rulesWithin 65 = .ok (.i2l, 1) := by decide +kernel
theorem dX0_rulesWithin_66 : decode cX0_rulesWithin 66 = .ok (.lstore 10, 2) := by decide +kernel
theorem dX0_rulesWithin_68 : decode cX0_rulesWithin 68 = .ok (.iload 5, 2) := by decide +kernel
theorem dX0_rulesWithin_70 : decode cX0_rulesWithin 70 = .ok (.lload_n 3, 1) := by decide +kernel
theorem dX0_rulesWithin_71 : decode cX0_rulesWithin 71 = .ok (.iload_n 2, 1) := by decide +kernel
theorem dX0_rulesWithin_72 : decode cX0_rulesWithin 72 = .ok (.i2l, 1) := by decide +kernel
theorem dX0_rulesWithin_73 : decode cX0_rulesWithin 73 = .ok (.lload 10, 2) := by decide +kernel
theorem dX0_rulesWithin_75 : decode cX0_rulesWithin 75 = .ok (.lmul, 1) := by decide +kernel
theorem dX0_rulesWithin_76 : decode cX0_rulesWithin 76 = .ok (.lcmp, 1) := by decide +kernel
theorem dX0_rulesWithin_77 : decode cX0_rulesWithin 77 = .ok (.ifCond .lt 7, 3) := by decide +kernel
theorem dX0_rulesWithin_80 : decode cX0_rulesWithin 80 = .ok (.iconst 1, 1) := by decide +kernel
theorem dX0_rulesWithin_81 : decode cX0_rulesWithin 81 = .ok (.goto 4, 3) := by decide +kernel
theorem dX0_rulesWithin_84 : decode cX0_rulesWithin 84 = .ok (.iconst 0, 1) := by decide +kernel
theorem dX0_rulesWithin_85 : decode cX0_rulesWithin 85 = .ok (.iadd, 1) := by decide +kernel
theorem dX0_rulesWithin_86 : decode cX0_rulesWithin 86 = .ok (.istore 5, 2) := by decide +kernel
theorem dX0_rulesWithin_88 : decode cX0_rulesWithin 88 = .ok (.iload 6, 2) := by decide +kernel
theorem dX0_rulesWithin_90 : decode cX0_rulesWithin 90 = .ok (.iconst 1, 1) := by decide +kernel
theorem dX0_rulesWithin_91 : decode cX0_rulesWithin 91 = .ok (.isub, 1) := by decide +kernel
theorem dX0_rulesWithin_92 : decode cX0_rulesWithin 92 = .ok (.iload_n 1, 1) := by decide +kernel
theorem dX0_rulesWithin_93 : decode cX0_rulesWithin 93 = .ok (.iand, 1) := by decide +kernel
theorem dX0_rulesWithin_94 : decode cX0_rulesWithin 94 = .ok (.istore 6, 2) := by decide +kernel
theorem dX0_rulesWithin_96 : decode cX0_rulesWithin 96 = .ok (.iinc 7 1, 3) := by decide +kernel
theorem dX0_rulesWithin_99 : decode cX0_rulesWithin 99 = .ok (.goto (-65), 3) := by decide +kernel
theorem dX0_rulesWithin_102 : decode cX0_rulesWithin 102 = .ok (.iload 5, 2) := by decide +kernel
theorem dX0_rulesWithin_104 : decode cX0_rulesWithin 104 = .ok (.ireturn, 1) := by decide +kernel
theorem q11 : (Jvm.Cond.initialized "ItemSets") ∈ lw_all := lw_g (lw_at lw_m0 1 rfl) rfl
theorem q14 : (Jvm.Cond.instantiable "ItemSets" (8 : Nat)) ∈ lw_all := lw_g (lw_at lw_m0 4 rfl) rfl
theorem q16 : (Jvm.Cond.instanceMethod ({ cls := "ItemSets", name := "<init>", desc := "()V" } : Jvm.MethodName)) ∈ lw_all := lw_g (lw_at lw_m0 6 rfl) rfl
theorem q17 : (Jvm.Cond.code ({ cls := "ItemSets", name := "<init>", desc := "()V" } : Jvm.MethodName) prog_1_method_1_code (1 : Nat) (Option.none : Option Jvm.ClassFile.FieldType)) ∈ lw_all := lw_g (lw_at lw_m0 7 rfl) rfl
theorem q18 : (Jvm.Cond.methodLink "ItemSets" (1 : Nat) ({ cls := "java/lang/Object", name := "<init>", desc := "()V" } : Jvm.MethodName)) ∈ lw_all := lw_g (lw_at lw_m0 8 rfl) rfl
theorem q21 : (Jvm.Cond.fieldLink "ItemSets" (23 : Nat) "ItemSets" "baskets" "I") ∈ lw_all := lw_g (lw_at lw_m0 11 rfl) rfl
theorem q22 : (Jvm.Cond.fieldLink "ItemSets" (7 : Nat) "ItemSets" "basket" "[I") ∈ lw_all := lw_g (lw_at lw_m0 12 rfl) rfl
theorem q23 : (Jvm.Cond.fieldLink "ItemSets" (27 : Nat) "ItemSets" "sorted" "Z") ∈ lw_all := lw_g (lw_at lw_m0 13 rfl) rfl
theorem q24 : (Jvm.Cond.fieldLink "ItemSets" (13 : Nat) "ItemSets" "lacking" "[J") ∈ lw_all := lw_g (lw_at lw_m0 14 rfl) rfl
theorem q25 : (Jvm.Cond.fieldLink "ItemSets" (50 : Nat) "ItemSets" "set" "I") ∈ lw_all := lw_g (lw_at lw_m0 15 rfl) rfl
theorem q26 : (Jvm.Cond.fieldLink "ItemSets" (17 : Nat) "ItemSets" "lost" "[J") ∈ lw_all := lw_g (lw_at lw_m0 16 rfl) rfl
theorem q27 : (Jvm.Cond.fieldLink "ItemSets" (20 : Nat) "ItemSets" "choice" "[I") ∈ lw_all := lw_g (lw_at lw_m0 17 rfl) rfl
theorem q28 : (Jvm.Cond.fieldLink "ItemSets" (64 : Nat) "ItemSets" "depth" "I") ∈ lw_all := lw_g (lw_at lw_m0 18 rfl) rfl
theorem q29 : (Jvm.Cond.lays "ItemSets" "ItemSets" "baskets" "I") ∈ lw_all := lw_g (lw_at lw_m0 19 rfl) rfl
theorem q30 : (Jvm.Cond.soleField "ItemSets" "baskets") ∈ lw_all := lw_g (lw_at lw_m0 20 rfl) rfl
theorem q31 : (Jvm.Cond.laysFinal "ItemSets" "ItemSets" "basket" "[I") ∈ lw_all := lw_g (lw_at lw_m0 21 rfl) rfl
theorem q32 : (Jvm.Cond.soleField "ItemSets" "basket") ∈ lw_all := lw_g (lw_at lw_m0 22 rfl) rfl
theorem q33 : (Jvm.Cond.lays "ItemSets" "ItemSets" "sorted" "Z") ∈ lw_all := lw_g (lw_at lw_m0 23 rfl) rfl
theorem q34 : (Jvm.Cond.soleField "ItemSets" "sorted") ∈ lw_all := lw_g (lw_at lw_m0 24 rfl) rfl
theorem q35 : (Jvm.Cond.laysFinal "ItemSets" "ItemSets" "lacking" "[J") ∈ lw_all := lw_g (lw_at lw_m0 25 rfl) rfl
theorem q36 : (Jvm.Cond.soleField "ItemSets" "lacking") ∈ lw_all := lw_g (lw_at lw_m0 26 rfl) rfl
theorem q37 : (Jvm.Cond.lays "ItemSets" "ItemSets" "set" "I") ∈ lw_all := lw_g (lw_at lw_m0 27 rfl) rfl
theorem q38 : (Jvm.Cond.soleField "ItemSets" "set") ∈ lw_all := lw_g (lw_at lw_m0 28 rfl) rfl
theorem q39 : (Jvm.Cond.laysFinal "ItemSets" "ItemSets" "lost" "[J") ∈ lw_all := lw_g (lw_at lw_m0 29 rfl) rfl
theorem q40 : (Jvm.Cond.soleField "ItemSets" "lost") ∈ lw_all := lw_g (lw_at lw_m0 30 rfl) rfl
theorem q41 : (Jvm.Cond.laysFinal "ItemSets" "ItemSets" "choice" "[I") ∈ lw_all := lw_g (lw_at lw_m0 31 rfl) rfl
theorem q42 : (Jvm.Cond.soleField "ItemSets" "choice") ∈ lw_all := lw_g (lw_at lw_m0 32 rfl) rfl
theorem q43 : (Jvm.Cond.lays "ItemSets" "ItemSets" "depth" "I") ∈ lw_all := lw_g (lw_at lw_m0 33 rfl) rfl
theorem q44 : (Jvm.Cond.soleField "ItemSets" "depth") ∈ lw_all := lw_g (lw_at lw_m0 34 rfl) rfl
theorem q45 : (Jvm.Cond.superclass "ItemSets" "java/lang/Object") ∈ lw_all := lw_g (lw_at lw_m0 35 rfl) rfl
theorem q49 : (Jvm.Cond.instanceMethod ({ cls := "ItemSets", name := "add", desc := "(I)I" } : Jvm.MethodName)) ∈ lw_all := lw_g (lw_at lw_m0 39 rfl) rfl
theorem q50 : (Jvm.Cond.selects "ItemSets" ({ cls := "ItemSets", name := "add", desc := "(I)I" } : Jvm.MethodName) ({ cls := "ItemSets", name := "add", desc := "(I)I" } : Jvm.MethodName)) ∈ lw_all := lw_g (lw_at lw_m0 40 rfl) rfl
theorem q51 : (Jvm.Cond.code ({ cls := "ItemSets", name := "add", desc := "(I)I" } : Jvm.MethodName) prog_1_method_2_code (2 : Nat) (Option.some Jvm.ClassFile.FieldType.int)) ∈ lw_all := lw_g (lw_at lw_m0 41 rfl) rfl
theorem q53 : (Jvm.Cond.instanceMethod ({ cls := "ItemSets", name := "drop", desc := "(I)I" } : Jvm.MethodName)) ∈ lw_all := lw_g (lw_at lw_m0 43 rfl) rfl
theorem q54 : (Jvm.Cond.selects "ItemSets" ({ cls := "ItemSets", name := "drop", desc := "(I)I" } : Jvm.MethodName) ({ cls := "ItemSets", name := "drop", desc := "(I)I" } : Jvm.MethodName)) ∈ lw_all := lw_g (lw_at lw_m0 44 rfl) rfl
theorem q55 : (Jvm.Cond.code ({ cls := "ItemSets", name := "drop", desc := "(I)I" } : Jvm.MethodName) prog_1_method_3_code (3 : Nat) (Option.some Jvm.ClassFile.FieldType.int)) ∈ lw_all := lw_g (lw_at lw_m0 45 rfl) rfl
theorem q57 : (Jvm.Cond.instanceMethod ({ cls := "ItemSets", name := "support", desc := "(I)I" } : Jvm.MethodName)) ∈ lw_all := lw_g (lw_at lw_m0 47 rfl) rfl
theorem q58 : (Jvm.Cond.selects "ItemSets" ({ cls := "ItemSets", name := "support", desc := "(I)I" } : Jvm.MethodName) ({ cls := "ItemSets", name := "support", desc := "(I)I" } : Jvm.MethodName)) ∈ lw_all := lw_g (lw_at lw_m0 48 rfl) rfl
theorem q59 : (Jvm.Cond.code ({ cls := "ItemSets", name := "support", desc := "(I)I" } : Jvm.MethodName) prog_1_method_4_code (4 : Nat) (Option.some Jvm.ClassFile.FieldType.int)) ∈ lw_all := lw_g (lw_at lw_m0 49 rfl) rfl
theorem q60 : (Jvm.Cond.methodLink "ItemSets" (31 : Nat) ({ cls := "ItemSets", name := "lostBy", desc := "(I)J" } : Jvm.MethodName)) ∈ lw_all := lw_g (lw_at lw_m0 50 rfl) rfl
theorem q61 : (Jvm.Cond.privateMethod ({ cls := "ItemSets", name := "lostBy", desc := "(I)J" } : Jvm.MethodName)) ∈ lw_tbl := lw_at lw_m0 51 rfl
theorem q62 : (Jvm.Cond.instanceMethod ({ cls := "ItemSets", name := "lostBy", desc := "(I)J" } : Jvm.MethodName)) ∈ lw_all := lw_g (lw_at lw_m0 52 rfl) rfl
theorem q63 : (Jvm.Cond.code ({ cls := "ItemSets", name := "lostBy", desc := "(I)J" } : Jvm.MethodName) prog_1_method_15_code (5 : Nat) (Option.some Jvm.ClassFile.FieldType.long)) ∈ lw_all := lw_g (lw_at lw_m0 53 rfl) rfl
theorem q64 : (Jvm.Cond.methodLink "ItemSets" (61 : Nat) ({ cls := "ItemSets", name := "sort", desc := "()V" } : Jvm.MethodName)) ∈ lw_all := lw_g (lw_at lw_m0 54 rfl) rfl
theorem q65 : (Jvm.Cond.privateMethod ({ cls := "ItemSets", name := "sort", desc := "()V" } : Jvm.MethodName)) ∈ lw_tbl := lw_at lw_m0 55 rfl
theorem q66 : (Jvm.Cond.instanceMethod ({ cls := "ItemSets", name := "sort", desc := "()V" } : Jvm.MethodName)) ∈ lw_all := lw_g (lw_at lw_m0 56 rfl) rfl
theorem q67 : (Jvm.Cond.code ({ cls := "ItemSets", name := "sort", desc := "()V" } : Jvm.MethodName) prog_1_method_14_code (3 : Nat) (Option.none : Option Jvm.ClassFile.FieldType)) ∈ lw_all := lw_g (lw_at lw_m0 57 rfl) rfl
theorem q68 : (Jvm.Cond.methodLink "ItemSets" (35 : Nat) ({ cls := "ItemSets", name := "ones", desc := "(J)I" } : Jvm.MethodName)) ∈ lw_all := lw_g (lw_at lw_m0 58 rfl) rfl
theorem q69 : (Jvm.Cond.static ({ cls := "ItemSets", name := "ones", desc := "(J)I" } : Jvm.MethodName)) ∈ lw_all := lw_g (lw_at lw_m0 59 rfl) rfl
theorem q70 : (Jvm.Cond.code ({ cls := "ItemSets", name := "ones", desc := "(J)I" } : Jvm.MethodName) prog_1_method_13_code (4 : Nat) (Option.some Jvm.ClassFile.FieldType.int)) ∈ lw_all := lw_g (lw_at lw_m0 60 rfl) rfl
theorem q72 : (Jvm.Cond.instanceMethod ({ cls := "ItemSets", name := "often", desc := "(I)I" } : Jvm.MethodName)) ∈ lw_all := lw_g (lw_at lw_m0 62 rfl) rfl
theorem q73 : (Jvm.Cond.selects "ItemSets" ({ cls := "ItemSets", name := "often", desc := "(I)I" } : Jvm.MethodName) ({ cls := "ItemSets", name := "often", desc := "(I)I" } : Jvm.MethodName)) ∈ lw_all := lw_g (lw_at lw_m0 63 rfl) rfl
theorem q74 : (Jvm.Cond.code ({ cls := "ItemSets", name := "often", desc := "(I)I" } : Jvm.MethodName) prog_1_method_5_code (5 : Nat) (Option.some Jvm.ClassFile.FieldType.int)) ∈ lw_all := lw_g (lw_at lw_m0 64 rfl) rfl
theorem q75 : (Jvm.Cond.methodLink "ItemSets" (39 : Nat) ({ cls := "ItemSets", name := "start", desc := "(I)Z" } : Jvm.MethodName)) ∈ lw_all := lw_g (lw_at lw_m0 65 rfl) rfl
theorem q76 : (Jvm.Cond.privateMethod ({ cls := "ItemSets", name := "start", desc := "(I)Z" } : Jvm.MethodName)) ∈ lw_tbl := lw_at lw_m0 66 rfl
theorem q77 : (Jvm.Cond.instanceMethod ({ cls := "ItemSets", name := "start", desc := "(I)Z" } : Jvm.MethodName)) ∈ lw_all := lw_g (lw_at lw_m0 67 rfl) rfl
theorem q78 : (Jvm.Cond.code ({ cls := "ItemSets", name := "start", desc := "(I)Z" } : Jvm.MethodName) prog_1_method_17_code (2 : Nat) (Option.some Jvm.ClassFile.FieldType.boolean)) ∈ lw_all := lw_g (lw_at lw_m0 68 rfl) rfl
theorem q79 : (Jvm.Cond.methodLink "ItemSets" (43 : Nat) ({ cls := "ItemSets", name := "goOn", desc := "(I)Z" } : Jvm.MethodName)) ∈ lw_all := lw_g (lw_at lw_m0 69 rfl) rfl
theorem q80 : (Jvm.Cond.privateMethod ({ cls := "ItemSets", name := "goOn", desc := "(I)Z" } : Jvm.MethodName)) ∈ lw_tbl := lw_at lw_m0 70 rfl
theorem q81 : (Jvm.Cond.instanceMethod ({ cls := "ItemSets", name := "goOn", desc := "(I)Z" } : Jvm.MethodName)) ∈ lw_all := lw_g (lw_at lw_m0 71 rfl) rfl
theorem q82 : (Jvm.Cond.code ({ cls := "ItemSets", name := "goOn", desc := "(I)Z" } : Jvm.MethodName) prog_1_method_18_code (3 : Nat) (Option.some Jvm.ClassFile.FieldType.boolean)) ∈ lw_all := lw_g (lw_at lw_m0 72 rfl) rfl
theorem q83 : (Jvm.Cond.methodLink "ItemSets" (67 : Nat) ({ cls := "ItemSets", name := "choose", desc := "(I)V" } : Jvm.MethodName)) ∈ lw_all := lw_g (lw_at lw_m0 73 rfl) rfl
theorem q84 : (Jvm.Cond.privateMethod ({ cls := "ItemSets", name := "choose", desc := "(I)V" } : Jvm.MethodName)) ∈ lw_tbl := lw_at lw_m0 74 rfl
theorem q85 : (Jvm.Cond.instanceMethod ({ cls := "ItemSets", name := "choose", desc := "(I)V" } : Jvm.MethodName)) ∈ lw_all := lw_g (lw_at lw_m0 75 rfl) rfl
theorem q86 : (Jvm.Cond.code ({ cls := "ItemSets", name := "choose", desc := "(I)V" } : Jvm.MethodName) prog_1_method_19_code (5 : Nat) (Option.none : Option Jvm.ClassFile.FieldType)) ∈ lw_all := lw_g (lw_at lw_m0 76 rfl) rfl
theorem q88 : (Jvm.Cond.instanceMethod ({ cls := "ItemSets", name := "full", desc := "(I)I" } : Jvm.MethodName)) ∈ lw_all := lw_g (lw_at lw_m0 78 rfl) rfl
theorem q89 : (Jvm.Cond.selects "ItemSets" ({ cls := "ItemSets", name := "full", desc := "(I)I" } : Jvm.MethodName) ({ cls := "ItemSets", name := "full", desc := "(I)I" } : Jvm.MethodName)) ∈ lw_all := lw_g (lw_at lw_m0 79 rfl) rfl
theorem q90 : (Jvm.Cond.code ({ cls := "ItemSets", name := "full", desc := "(I)I" } : Jvm.MethodName) prog_1_method_6_code (5 : Nat) (Option.some Jvm.ClassFile.FieldType.int)) ∈ lw_all := lw_g (lw_at lw_m0 80 rfl) rfl
theorem q91 : (Jvm.Cond.methodLink "ItemSets" (46 : Nat) ({ cls := "ItemSets", name := "leastLoss", desc := "()I" } : Jvm.MethodName)) ∈ lw_all := lw_g (lw_at lw_m0 81 rfl) rfl
theorem q92 : (Jvm.Cond.privateMethod ({ cls := "ItemSets", name := "leastLoss", desc := "()I" } : Jvm.MethodName)) ∈ lw_tbl := lw_at lw_m0 82 rfl
theorem q93 : (Jvm.Cond.instanceMethod ({ cls := "ItemSets", name := "leastLoss", desc := "()I" } : Jvm.MethodName)) ∈ lw_all := lw_g (lw_at lw_m0 83 rfl) rfl
theorem q94 : (Jvm.Cond.code ({ cls := "ItemSets", name := "leastLoss", desc := "()I" } : Jvm.MethodName) prog_1_method_16_code (4 : Nat) (Option.some Jvm.ClassFile.FieldType.int)) ∈ lw_all := lw_g (lw_at lw_m0 84 rfl) rfl
theorem q95 : (Jvm.Cond.constantLong "ItemSets" (53 : Nat) (-1 : Int64)) ∈ lw_all := lw_g (lw_at lw_m0 85 rfl) rfl
theorem q97 : (Jvm.Cond.instanceMethod ({ cls := "ItemSets", name := "largest", desc := "(I)I" } : Jvm.MethodName)) ∈ lw_all := lw_g (lw_at lw_m0 87 rfl) rfl
theorem q98 : (Jvm.Cond.selects "ItemSets" ({ cls := "ItemSets", name := "largest", desc := "(I)I" } : Jvm.MethodName) ({ cls := "ItemSets", name := "largest", desc := "(I)I" } : Jvm.MethodName)) ∈ lw_all := lw_g (lw_at lw_m0 88 rfl) rfl
theorem q99 : (Jvm.Cond.code ({ cls := "ItemSets", name := "largest", desc := "(I)I" } : Jvm.MethodName) prog_1_method_7_code (6 : Nat) (Option.some Jvm.ClassFile.FieldType.int)) ∈ lw_all := lw_g (lw_at lw_m0 89 rfl) rfl
theorem q101 : (Jvm.Cond.instanceMethod ({ cls := "ItemSets", name := "size", desc := "(I)I" } : Jvm.MethodName)) ∈ lw_all := lw_g (lw_at lw_m0 91 rfl) rfl
theorem q102 : (Jvm.Cond.selects "ItemSets" ({ cls := "ItemSets", name := "size", desc := "(I)I" } : Jvm.MethodName) ({ cls := "ItemSets", name := "size", desc := "(I)I" } : Jvm.MethodName)) ∈ lw_all := lw_g (lw_at lw_m0 92 rfl) rfl
theorem q103 : (Jvm.Cond.code ({ cls := "ItemSets", name := "size", desc := "(I)I" } : Jvm.MethodName) prog_1_method_8_code (6 : Nat) (Option.some Jvm.ClassFile.FieldType.int)) ∈ lw_all := lw_g (lw_at lw_m0 93 rfl) rfl
theorem q105 : (Jvm.Cond.instanceMethod ({ cls := "ItemSets", name := "next", desc := "(II)I" } : Jvm.MethodName)) ∈ lw_all := lw_g (lw_at lw_m0 95 rfl) rfl
theorem q106 : (Jvm.Cond.selects "ItemSets" ({ cls := "ItemSets", name := "next", desc := "(II)I" } : Jvm.MethodName) ({ cls := "ItemSets", name := "next", desc := "(II)I" } : Jvm.MethodName)) ∈ lw_all := lw_g (lw_at lw_m0 96 rfl) rfl
theorem q107 : (Jvm.Cond.code ({ cls := "ItemSets", name := "next", desc := "(II)I" } : Jvm.MethodName) prog_1_method_9_code (5 : Nat) (Option.some Jvm.ClassFile.FieldType.int)) ∈ lw_all := lw_g (lw_at lw_m0 97 rfl) rfl
theorem q109 : (Jvm.Cond.instanceMethod ({ cls := "ItemSets", name := "closure", desc := "(I)I" } : Jvm.MethodName)) ∈ lw_all := lw_g (lw_at lw_m0 99 rfl) rfl
theorem q110 : (Jvm.Cond.selects "ItemSets" ({ cls := "ItemSets", name := "closure", desc := "(I)I" } : Jvm.MethodName) ({ cls := "ItemSets", name := "closure", desc := "(I)I" } : Jvm.MethodName)) ∈ lw_all := lw_g (lw_at lw_m0 100 rfl) rfl
theorem q111 : (Jvm.Cond.code ({ cls := "ItemSets", name := "closure", desc := "(I)I" } : Jvm.MethodName) prog_1_method_10_code (6 : Nat) (Option.some Jvm.ClassFile.FieldType.int)) ∈ lw_all := lw_g (lw_at lw_m0 101 rfl) rfl
theorem q113 : (Jvm.Cond.instanceMethod ({ cls := "ItemSets", name := "rules", desc := "(II)I" } : Jvm.MethodName)) ∈ lw_all := lw_g (lw_at lw_m0 103 rfl) rfl
theorem q114 : (Jvm.Cond.selects "ItemSets" ({ cls := "ItemSets", name := "rules", desc := "(II)I" } : Jvm.MethodName) ({ cls := "ItemSets", name := "rules", desc := "(II)I" } : Jvm.MethodName)) ∈ lw_all := lw_g (lw_at lw_m0 104 rfl) rfl
theorem q115 : (Jvm.Cond.code ({ cls := "ItemSets", name := "rules", desc := "(II)I" } : Jvm.MethodName) prog_1_method_11_code (6 : Nat) (Option.some Jvm.ClassFile.FieldType.int)) ∈ lw_all := lw_g (lw_at lw_m0 105 rfl) rfl
theorem q116 : (Jvm.Cond.methodLink "ItemSets" (55 : Nat) ({ cls := "ItemSets", name := "rulesWithin", desc := "(II)I" } : Jvm.MethodName)) ∈ lw_all := lw_g (lw_at lw_m0 106 rfl) rfl
theorem q117 : (Jvm.Cond.privateMethod ({ cls := "ItemSets", name := "rulesWithin", desc := "(II)I" } : Jvm.MethodName)) ∈ lw_tbl := lw_at lw_m0 107 rfl
theorem q118 : (Jvm.Cond.instanceMethod ({ cls := "ItemSets", name := "rulesWithin", desc := "(II)I" } : Jvm.MethodName)) ∈ lw_all := lw_g (lw_at lw_m0 108 rfl) rfl
theorem q119 : (Jvm.Cond.code ({ cls := "ItemSets", name := "rulesWithin", desc := "(II)I" } : Jvm.MethodName) prog_1_method_12_code (12 : Nat) (Option.some Jvm.ClassFile.FieldType.int)) ∈ lw_all := lw_g (lw_at lw_m0 109 rfl) rfl
theorem q120 : (Jvm.Cond.constantLong "ItemSets" (59 : Nat) (100 : Int64)) ∈ lw_all := lw_g (lw_at lw_m0 110 rfl) rfl
theorem in_X0 : ∀ w ∈ wsX00, w ∈ lw_all := lw_in wsX00 [29, 31, 33, 35, 37, 39, 41, 43] (by decide +kernel) (by decide +kernel)
end
section
/-! ItemSetsModel -/
set_option maxRecDepth 100000
def RX1 : String := "ItemSetsModel"
def TX1 : u_T := fun k => match k with
  | 0 => ("ItemSetsModel", "held", "I", false)
  | _ => ("ItemSetsModel", "baskets", "[I", true)
def tyX1 : Nat → FieldType := fun k => match k with
  | 0 => .int
  | _ => .array .int
abbrev wsX10 : List Cond := u_ws RX1 TX1 2
theorem nmX1 : ∀ a, a < 2 → ∀ b, b < 2 → a ≠ b → (TX1 a).2.1 ≠ (TX1 b).2.1 := by decide +kernel
theorem tyX1_ok : ∀ k, k < 2 → parseFieldDescriptor (TX1 k).2.2.1 = some (tyX1 k) := by decide +kernel
abbrev cX1_init : ByteArray := prog_3_method_1_code
def yX1_init : MethodName := ⟨RX1, "<init>", "()V"⟩
theorem dX1_init_0 : decode cX1_init 0 = .ok (.aload_n 0, 1) := by decide +kernel
theorem dX1_init_1 : decode cX1_init 1 = .ok (.invokespecial 1, 3) := by decide +kernel
theorem dX1_init_4 : decode cX1_init 4 = .ok (.aload_n 0, 1) := by decide +kernel
theorem dX1_init_5 : decode cX1_init 5 = .ok (.bipush 40, 2) := by decide +kernel
theorem dX1_init_7 : decode cX1_init 7 = .ok (.newarray .int, 2) := by decide +kernel
theorem dX1_init_9 : decode cX1_init 9 = .ok (.putfield 7, 3) := by decide +kernel
theorem dX1_init_12 : decode cX1_init 12 = .ok (.return_, 1) := by decide +kernel
abbrev cX1_add : ByteArray := prog_3_method_2_code
def yX1_add : MethodName := ⟨RX1, "add", "(I)I"⟩
theorem dX1_add_0 : decode cX1_add 0 = .ok (.aload_n 0, 1) := by decide +kernel
theorem dX1_add_1 : decode cX1_add 1 = .ok (.getfield 13, 3) := by decide +kernel
theorem dX1_add_4 : decode cX1_add 4 = .ok (.bipush 40, 2) := by decide +kernel
theorem dX1_add_6 : decode cX1_add 6 = .ok (.if_icmp .ne 5, 3) := by decide +kernel
theorem dX1_add_9 : decode cX1_add 9 = .ok (.iconst (-1), 1) := by decide +kernel
theorem dX1_add_10 : decode cX1_add 10 = .ok (.ireturn, 1) := by decide +kernel
theorem dX1_add_11 : decode cX1_add 11 = .ok (.aload_n 0, 1) := by decide +kernel
theorem dX1_add_12 : decode cX1_add 12 = .ok (.getfield 7, 3) := by decide +kernel
theorem dX1_add_15 : decode cX1_add 15 = .ok (.aload_n 0, 1) := by decide +kernel
theorem dX1_add_16 : decode cX1_add 16 = .ok (.getfield 13, 3) := by decide +kernel
theorem dX1_add_19 : decode cX1_add 19 = .ok (.iload_n 1, 1) := by decide +kernel
theorem dX1_add_20 : decode cX1_add 20 = .ok (.sipush 255, 3) := by decide +kernel
theorem dX1_add_23 : decode cX1_add 23 = .ok (.iand, 1) := by decide +kernel
theorem dX1_add_24 : decode cX1_add 24 = .ok (.iastore, 1) := by decide +kernel
theorem dX1_add_25 : decode cX1_add 25 = .ok (.aload_n 0, 1) := by decide +kernel
theorem dX1_add_26 : decode cX1_add 26 = .ok (.dup, 1) := by decide +kernel
theorem dX1_add_27 : decode cX1_add 27 = .ok (.getfield 13, 3) := by decide +kernel
theorem dX1_add_30 : decode cX1_add 30 = .ok (.iconst 1, 1) := by decide +kernel
theorem dX1_add_31 : decode cX1_add 31 = .ok (.iadd, 1) := by decide +kernel
theorem dX1_add_32 : decode cX1_add 32 = .ok (.putfield 13, 3) := by decide +kernel
theorem dX1_add_35 : decode cX1_add 35 = .ok (.aload_n 0, 1) := by decide +kernel
theorem dX1_add_36 : decode cX1_add 36 = .ok (.getfield 13, 3) := by decide +kernel
theorem dX1_add_39 : decode cX1_add 39 = .ok (.ireturn, 1) := by decide +kernel
abbrev cX1_drop : ByteArray := prog_3_method_3_code
def yX1_drop : MethodName := ⟨RX1, "drop", "(I)I"⟩
theorem dX1_drop_0 : decode cX1_drop 0 = .ok (.iload_n 1, 1) := by decide +kernel
theorem dX1_drop_1 : decode cX1_drop 1 = .ok (.ifCond .lt 11, 3) := by decide +kernel
theorem dX1_drop_4 : decode cX1_drop 4 = .ok (.iload_n 1, 1) := by decide +kernel
theorem dX1_drop_5 : decode cX1_drop 5 = .ok (.aload_n 0, 1) := by decide +kernel
theorem dX1_drop_6 : decode cX1_drop 6 = .ok (.getfield 13, 3) := by decide +kernel
theorem dX1_drop_9 : decode cX1_drop 9 = .ok (.if_icmp .lt 5, 3) := by decide +kernel
theorem dX1_drop_12 : decode cX1_drop 12 = .ok (.iconst (-1), 1) := by decide +kernel
theorem dX1_drop_13 : decode cX1_drop 13 = .ok (.ireturn, 1) := by decide +kernel
theorem dX1_drop_14 : decode cX1_drop 14 = .ok (.aload_n 0, 1) := by decide +kernel
theorem dX1_drop_15 : decode cX1_drop 15 = .ok (.dup, 1) := by decide +kernel
theorem dX1_drop_16 : decode cX1_drop 16 = .ok (.getfield 13, 3) := by decide +kernel
theorem dX1_drop_19 : decode cX1_drop 19 = .ok (.iconst 1, 1) := by decide +kernel
theorem dX1_drop_20 : decode cX1_drop 20 = .ok (.isub, 1) := by decide +kernel
theorem dX1_drop_21 : decode cX1_drop 21 = .ok (.putfield 13, 3) := by decide +kernel
theorem dX1_drop_24 : decode cX1_drop 24 = .ok (.iload_n 1, 1) := by decide +kernel
theorem dX1_drop_25 : decode cX1_drop 25 = .ok (.istore_n 2, 1) := by decide +kernel
theorem dX1_drop_26 : decode cX1_drop 26 = .ok (.iload_n 2, 1) := by decide +kernel
theorem dX1_drop_27 : decode cX1_drop 27 = .ok (.aload_n 0, 1) := by decide +kernel
theorem dX1_drop_28 : decode cX1_drop 28 = .ok (.getfield 13, 3) := by decide +kernel
theorem dX1_drop_31 : decode cX1_drop 31 = .ok (.if_icmp .ge 23, 3) := by decide +kernel
theorem dX1_drop_34 : decode cX1_drop 34 = .ok (.aload_n 0, 1) := by decide +kernel
theorem dX1_drop_35 : decode cX1_drop 35 = .ok (.getfield 7, 3) := by decide +kernel
theorem dX1_drop_38 : decode cX1_drop 38 = .ok (.iload_n 2, 1) := by decide +kernel
theorem dX1_drop_39 : decode cX1_drop 39 = .ok (.aload_n 0, 1) := by decide +kernel
theorem dX1_drop_40 : decode cX1_drop 40 = .ok (.getfield 7, 3) := by decide +kernel
theorem dX1_drop_43 : decode cX1_drop 43 = .ok (.iload_n 2, 1) := by decide +kernel
theorem dX1_drop_44 : decode cX1_drop 44 = .ok (.iconst 1, 1) := by decide +kernel
theorem dX1_drop_45 : decode cX1_drop 45 = .ok (.iadd, 1) := by decide +kernel
theorem dX1_drop_46 : decode cX1_drop 46 = .ok (.iaload, 1) := by decide +kernel
theorem dX1_drop_47 : decode cX1_drop 47 = .ok (.iastore, 1) := by decide +kernel
theorem dX1_drop_48 : decode cX1_drop 48 = .ok (.iinc 2 1, 3) := by decide +kernel
theorem dX1_drop_51 : decode cX1_drop 51 = .ok (.goto (-25), 3) := by decide +kernel
theorem dX1_drop_54 : decode cX1_drop 54 = .ok (.aload_n 0, 1) := by decide +kernel
theorem dX1_drop_55 : decode cX1_drop 55 = .ok (.getfield 13, 3) := by decide +kernel
theorem dX1_drop_58 : decode cX1_drop 58 = .ok (.ireturn, 1) := by decide +kernel
abbrev cX1_support : ByteArray := prog_3_method_4_code
def yX1_support : MethodName := ⟨RX1, "support", "(I)I"⟩
theorem dX1_support_0 : decode cX1_support 0 = .ok (.iload_n 1, 1) := by decide +kernel
theorem dX1_support_1 : decode cX1_support 1 = .ok (.sipush 255, 3) := by decide +kernel
theorem dX1_support_4 : decode cX1_support 4 = .ok (.iand, 1) := by decide +kernel
theorem dX1_support_5 : decode cX1_support 5 = .ok (.istore_n 2, 1) := by decide +kernel
theorem dX1_support_6 : decode cX1_support 6 = .ok (.iconst 0, 1) := by decide +kernel
theorem dX1_support_7 : decode cX1_support 7 = .ok (.istore_n 3, 1) := by decide +kernel
theorem dX1_support_8 : decode cX1_support 8 = .ok (.iconst 0, 1) := by decide +kernel
theorem dX1_support_9 : decode cX1_support 9 = .ok (.istore 4, 2) := by decide +kernel
theorem dX1_support_11 : decode cX1_support 11 = .ok (.iload 4, 2) := by decide +kernel
theorem dX1_support_13 : decode cX1_support 13 = .ok (.aload_n 0, 1) := by decide +kernel
theorem dX1_support_14 : decode cX1_support 14 = .ok (.getfield 13, 3) := by decide +kernel
theorem dX1_support_17 : decode cX1_support 17 = .ok (.if_icmp .ge 25, 3) := by decide +kernel
theorem dX1_support_20 : decode cX1_support 20 = .ok (.aload_n 0, 1) := by decide +kernel
theorem dX1_support_21 : decode cX1_support 21 = .ok (.getfield 7, 3) := by decide +kernel
theorem dX1_support_24 : decode cX1_support 24 = .ok (.iload 4, 2) := by decide +kernel
theorem dX1_support_26 : decode cX1_support 26 = .ok (.iaload, 1) := by decide +kernel
theorem dX1_support_27 : decode cX1_support 27 = .ok (.iload_n 2, 1) := by decide +kernel
theorem dX1_support_28 : decode cX1_support 28 = .ok (.iand, 1) := by decide +kernel
theorem dX1_support_29 : decode cX1_support 29 = .ok (.iload_n 2, 1) := by decide +kernel
theorem dX1_support_30 : decode cX1_support 30 = .ok (.if_icmp .ne 6, 3) := by decide +kernel
theorem dX1_support_33 : decode cX1_support 33 = .ok (.iinc 3 1, 3) := by decide +kernel
theorem dX1_support_36 : decode cX1_support 36 = .ok (.iinc 4 1, 3) := by decide +kernel
theorem dX1_support_39 : decode cX1_support 39 = .ok (.goto (-28), 3) := by decide +kernel
theorem dX1_support_42 : decode cX1_support 42 = .ok (.iload_n 3, 1) := by decide +kernel
theorem dX1_support_43 : decode cX1_support 43 = .ok (.ireturn, 1) := by decide +kernel
abbrev cX1_often : ByteArray := prog_3_method_6_code
def yX1_often : MethodName := ⟨RX1, "often", "(I)I"⟩
theorem dX1_often_0 : decode cX1_often 0 = .ok (.iconst 0, 1) := by decide +kernel
theorem dX1_often_1 : decode cX1_often 1 = .ok (.istore_n 2, 1) := by decide +kernel
theorem dX1_often_2 : decode cX1_often 2 = .ok (.iconst 1, 1) := by decide +kernel
theorem dX1_often_3 : decode cX1_often 3 = .ok (.istore_n 3, 1) := by decide +kernel
theorem dX1_often_4 : decode cX1_often 4 = .ok (.iload_n 3, 1) := by decide +kernel
theorem dX1_often_5 : decode cX1_often 5 = .ok (.sipush 256, 3) := by decide +kernel
theorem dX1_often_8 : decode cX1_often 8 = .ok (.if_icmp .ge 21, 3) := by decide +kernel
theorem dX1_often_11 : decode cX1_often 11 = .ok (.aload_n 0, 1) := by decide +kernel
theorem dX1_often_12 : decode cX1_often 12 = .ok (.iload_n 3, 1) := by decide +kernel
theorem dX1_often_13 : decode cX1_often 13 = .ok (.iload_n 1, 1) := by decide +kernel
theorem dX1_often_14 : decode cX1_often 14 = .ok (.invokevirtual 21, 3) := by decide +kernel
theorem dX1_often_17 : decode cX1_often 17 = .ok (.ifCond .eq 6, 3) := by decide +kernel
theorem dX1_often_20 : decode cX1_often 20 = .ok (.iinc 2 1, 3) := by decide +kernel
theorem dX1_often_23 : decode cX1_often 23 = .ok (.iinc 3 1, 3) := by decide +kernel
theorem dX1_often_26 : decode cX1_often 26 = .ok (.goto (-22), 3) := by decide +kernel
theorem dX1_often_29 : decode cX1_often 29 = .ok (.iload_n 2, 1) := by decide +kernel
theorem dX1_often_30 : decode cX1_often 30 = .ok (.ireturn, 1) := by decide +kernel
abbrev cX1_isOften : ByteArray := prog_3_method_5_code
def yX1_isOften : MethodName := ⟨RX1, "isOften", "(II)Z"⟩
theorem dX1_isOften_0 : decode cX1_isOften 0 = .ok (.iload_n 2, 1) := by decide +kernel
theorem dX1_isOften_1 : decode cX1_isOften 1 = .ok (.iconst 1, 1) := by decide +kernel
theorem dX1_isOften_2 : decode cX1_isOften 2 = .ok (.if_icmp .lt 20, 3) := by decide +kernel
theorem dX1_isOften_5 : decode cX1_isOften 5 = .ok (.iload_n 1, 1) := by decide +kernel
theorem dX1_isOften_6 : decode cX1_isOften 6 = .ok (.ifCond .eq 16, 3) := by decide +kernel
theorem dX1_isOften_9 : decode cX1_isOften 9 = .ok (.aload_n 0, 1) := by decide +kernel
theorem dX1_isOften_10 : decode cX1_isOften 10 = .ok (.iload_n 1, 1) := by decide +kernel
theorem dX1_isOften_11 : decode cX1_isOften 11 = .ok (.invokevirtual 17, 3) := by decide +kernel
theorem dX1_isOften_14 : decode cX1_isOften 14 = .ok (.iload_n 2, 1) := by decide +kernel
theorem dX1_isOften_15 : decode cX1_isOften 15 = .ok (.if_icmp .lt 7, 3) := by decide +kernel
theorem dX1_isOften_18 : decode cX1_isOften 18 = .ok (.iconst 1, 1) := by decide +kernel
theorem dX1_isOften_19 : decode cX1_isOften 19 = .ok (.goto 4, 3) := by decide +kernel
theorem dX1_isOften_22 : decode cX1_isOften 22 = .ok (.iconst 0, 1) := by decide +kernel
theorem dX1_isOften_23 : decode cX1_isOften 23 = .ok (.ireturn, 1) := by decide +kernel
abbrev cX1_full : ByteArray := prog_3_method_8_code
def yX1_full : MethodName := ⟨RX1, "full", "(I)I"⟩
theorem dX1_full_0 : decode cX1_full 0 = .ok (.iconst 0, 1) := by decide +kernel
theorem dX1_full_1 : decode cX1_full 1 = .ok (.istore_n 2, 1) := by decide +kernel
theorem dX1_full_2 : decode cX1_full 2 = .ok (.iconst 1, 1) := by decide +kernel
theorem dX1_full_3 : decode cX1_full 3 = .ok (.istore_n 3, 1) := by decide +kernel
theorem dX1_full_4 : decode cX1_full 4 = .ok (.iload_n 3, 1) := by decide +kernel
theorem dX1_full_5 : decode cX1_full 5 = .ok (.sipush 256, 3) := by decide +kernel
theorem dX1_full_8 : decode cX1_full 8 = .ok (.if_icmp .ge 29, 3) := by decide +kernel
theorem dX1_full_11 : decode cX1_full 11 = .ok (.aload_n 0, 1) := by decide +kernel
theorem dX1_full_12 : decode cX1_full 12 = .ok (.iload_n 3, 1) := by decide +kernel
theorem dX1_full_13 : decode cX1_full 13 = .ok (.iload_n 1, 1) := by decide +kernel
theorem dX1_full_14 : decode cX1_full 14 = .ok (.invokevirtual 21, 3) := by decide +kernel
theorem dX1_full_17 : decode cX1_full 17 = .ok (.ifCond .eq 14, 3) := by decide +kernel
theorem dX1_full_20 : decode cX1_full 20 = .ok (.aload_n 0, 1) := by decide +kernel
theorem dX1_full_21 : decode cX1_full 21 = .ok (.iload_n 3, 1) := by decide +kernel
theorem dX1_full_22 : decode cX1_full 22 = .ok (.invokevirtual 25, 3) := by decide +kernel
theorem dX1_full_25 : decode cX1_full 25 = .ok (.ifCond .eq 6, 3) := by decide +kernel
theorem dX1_full_28 : decode cX1_full 28 = .ok (.iinc 2 1, 3) := by decide +kernel
theorem dX1_full_31 : decode cX1_full 31 = .ok (.iinc 3 1, 3) := by decide +kernel
theorem dX1_full_34 : decode cX1_full 34 = .ok (.goto (-30), 3) := by decide +kernel
theorem dX1_full_37 : decode cX1_full 37 = .ok (.iload_n 2, 1) := by decide +kernel
theorem dX1_full_38 : decode cX1_full 38 = .ok (.ireturn, 1) := by decide +kernel
abbrev cX1_isFull : ByteArray := prog_3_method_7_code
def yX1_isFull : MethodName := ⟨RX1, "isFull", "(I)Z"⟩
theorem dX1_isFull_0 : decode cX1_isFull 0 = .ok (.aload_n 0, 1) := by decide +kernel
theorem dX1_isFull_1 : decode cX1_isFull 1 = .ok (.iload_n 1, 1) := by decide +kernel
theorem dX1_isFull_2 : decode cX1_isFull 2 = .ok (.invokevirtual 17, 3) := by decide +kernel
theorem dX1_isFull_5 : decode cX1_isFull 5 = .ok (.istore_n 2, 1) := by decide +kernel
theorem dX1_isFull_6 : decode cX1_isFull 6 = .ok (.iconst 0, 1) := by decide +kernel
theorem dX1_isFull_7 : decode cX1_isFull 7 = .ok (.istore_n 3, 1) := by decide +kernel
theorem dX1_isFull_8 : decode cX1_isFull 8 = .ok (.iload_n 3, 1) := by decide +kernel
theorem dX1_isFull_9 : decode cX1_isFull 9 = .ok (.sipush 256, 3) := by decide +kernel
theorem dX1_isFull_12 : decode cX1_isFull 12 = .ok (.if_icmp .ge 32, 3) := by decide +kernel
theorem dX1_isFull_15 : decode cX1_isFull 15 = .ok (.iload_n 3, 1) := by decide +kernel
theorem dX1_isFull_16 : decode cX1_isFull 16 = .ok (.iload_n 1, 1) := by decide +kernel
theorem dX1_isFull_17 : decode cX1_isFull 17 = .ok (.if_icmp .eq 21, 3) := by decide +kernel
theorem dX1_isFull_20 : decode cX1_isFull 20 = .ok (.iload_n 3, 1) := by decide +kernel
theorem dX1_isFull_21 : decode cX1_isFull 21 = .ok (.iload_n 1, 1) := by decide +kernel
theorem dX1_isFull_22 : decode cX1_isFull 22 = .ok (.iand, 1) := by decide +kernel
theorem dX1_isFull_23 : decode cX1_isFull 23 = .ok (.iload_n 1, 1) := by decide +kernel
theorem dX1_isFull_24 : decode cX1_isFull 24 = .ok (.if_icmp .ne 14, 3) := by decide +kernel
theorem dX1_isFull_27 : decode cX1_isFull 27 = .ok (.aload_n 0, 1) := by decide +kernel
theorem dX1_isFull_28 : decode cX1_isFull 28 = .ok (.iload_n 3, 1) := by decide +kernel
theorem dX1_isFull_29 : decode cX1_isFull 29 = .ok (.invokevirtual 17, 3) := by decide +kernel
theorem dX1_isFull_32 : decode cX1_isFull 32 = .ok (.iload_n 2, 1) := by decide +kernel
theorem dX1_isFull_33 : decode cX1_isFull 33 = .ok (.if_icmp .ne 5, 3) := by decide +kernel
theorem dX1_isFull_36 : decode cX1_isFull 36 = .ok (.iconst 0, 1) := by decide +kernel
theorem dX1_isFull_37 : decode cX1_isFull 37 = .ok (.ireturn, 1) := by decide +kernel
theorem dX1_isFull_38 : decode cX1_isFull 38 = .ok (.iinc 3 1, 3) := by decide +kernel
theorem dX1_isFull_41 : decode cX1_isFull 41 = .ok (.goto (-33), 3) := by decide +kernel
theorem dX1_isFull_44 : decode cX1_isFull 44 = .ok (.iconst 1, 1) := by decide +kernel
theorem dX1_isFull_45 : decode cX1_isFull 45 = .ok (.ireturn, 1) := by decide +kernel
abbrev cX1_largest : ByteArray := prog_3_method_10_code
def yX1_largest : MethodName := ⟨RX1, "largest", "(I)I"⟩
theorem dX1_largest_0 : decode cX1_largest 0 = .ok (.iconst 0, 1) := by decide +kernel
theorem dX1_largest_1 : decode cX1_largest 1 = .ok (.istore_n 2, 1) := by decide +kernel
theorem dX1_largest_2 : decode cX1_largest 2 = .ok (.iconst 1, 1) := by decide +kernel
theorem dX1_largest_3 : decode cX1_largest 3 = .ok (.istore_n 3, 1) := by decide +kernel
theorem dX1_largest_4 : decode cX1_largest 4 = .ok (.iload_n 3, 1) := by decide +kernel
theorem dX1_largest_5 : decode cX1_largest 5 = .ok (.sipush 256, 3) := by decide +kernel
theorem dX1_largest_8 : decode cX1_largest 8 = .ok (.if_icmp .ge 30, 3) := by decide +kernel
theorem dX1_largest_11 : decode cX1_largest 11 = .ok (.aload_n 0, 1) := by decide +kernel
theorem dX1_largest_12 : decode cX1_largest 12 = .ok (.iload_n 3, 1) := by decide +kernel
theorem dX1_largest_13 : decode cX1_largest 13 = .ok (.iload_n 1, 1) := by decide +kernel
theorem dX1_largest_14 : decode cX1_largest 14 = .ok (.invokevirtual 21, 3) := by decide +kernel
theorem dX1_largest_17 : decode cX1_largest 17 = .ok (.ifCond .eq 15, 3) := by decide +kernel
theorem dX1_largest_20 : decode cX1_largest 20 = .ok (.aload_n 0, 1) := by decide +kernel
theorem dX1_largest_21 : decode cX1_largest 21 = .ok (.iload_n 3, 1) := by decide +kernel
theorem dX1_largest_22 : decode cX1_largest 22 = .ok (.iload_n 1, 1) := by decide +kernel
theorem dX1_largest_23 : decode cX1_largest 23 = .ok (.invokevirtual 29, 3) := by decide +kernel
theorem dX1_largest_26 : decode cX1_largest 26 = .ok (.ifCond .eq 6, 3) := by decide +kernel
theorem dX1_largest_29 : decode cX1_largest 29 = .ok (.iinc 2 1, 3) := by decide +kernel
theorem dX1_largest_32 : decode cX1_largest 32 = .ok (.iinc 3 1, 3) := by decide +kernel
theorem dX1_largest_35 : decode cX1_largest 35 = .ok (.goto (-31), 3) := by decide +kernel
theorem dX1_largest_38 : decode cX1_largest 38 = .ok (.iload_n 2, 1) := by decide +kernel
theorem dX1_largest_39 : decode cX1_largest 39 = .ok (.ireturn, 1) := by decide +kernel
abbrev cX1_isLargest : ByteArray := prog_3_method_9_code
def yX1_isLargest : MethodName := ⟨RX1, "isLargest", "(II)Z"⟩
theorem dX1_isLargest_0 : decode cX1_isLargest 0 = .ok (.iconst 0, 1) := by decide +kernel
theorem dX1_isLargest_1 : decode cX1_isLargest 1 = .ok (.istore_n 3, 1) := by decide +kernel
theorem dX1_isLargest_2 : decode cX1_isLargest 2 = .ok (.iload_n 3, 1) := by decide +kernel
theorem dX1_isLargest_3 : decode cX1_isLargest 3 = .ok (.sipush 256, 3) := by decide +kernel
theorem dX1_isLargest_6 : decode cX1_isLargest 6 = .ok (.if_icmp .ge 32, 3) := by decide +kernel
theorem dX1_isLargest_9 : decode cX1_isLargest 9 = .ok (.iload_n 3, 1) := by decide +kernel
theorem dX1_isLargest_10 : decode cX1_isLargest 10 = .ok (.iload_n 1, 1) := by decide +kernel
theorem dX1_isLargest_11 : decode cX1_isLargest 11 = .ok (.if_icmp .eq 21, 3) := by decide +kernel
theorem dX1_isLargest_14 : decode cX1_isLargest 14 = .ok (.iload_n 3, 1) := by decide +kernel
theorem dX1_isLargest_15 : decode cX1_isLargest 15 = .ok (.iload_n 1, 1) := by decide +kernel
theorem dX1_isLargest_16 : decode cX1_isLargest 16 = .ok (.iand, 1) := by decide +kernel
theorem dX1_isLargest_17 : decode cX1_isLargest 17 = .ok (.iload_n 1, 1) := by decide +kernel
theorem dX1_isLargest_18 : decode cX1_isLargest 18 = .ok (.if_icmp .ne 14, 3) := by decide +kernel
theorem dX1_isLargest_21 : decode cX1_isLargest 21 = .ok (.aload_n 0, 1) := by decide +kernel
theorem dX1_isLargest_22 : decode cX1_isLargest 22 = .ok (.iload_n 3, 1) := by decide +kernel
theorem dX1_isLargest_23 : decode cX1_isLargest 23 = .ok (.iload_n 2, 1) := by decide +kernel
theorem dX1_isLargest_24 : decode cX1_isLargest 24 = .ok (.invokevirtual 21, 3) := by decide +kernel
theorem dX1_isLargest_27 : decode cX1_isLargest 27 = .ok (.ifCond .eq 5, 3) := by decide +kernel
theorem dX1_isLargest_30 : decode cX1_isLargest 30 = .ok (.iconst 0, 1) := by decide +kernel
theorem dX1_isLargest_31 : decode cX1_isLargest 31 = .ok (.ireturn, 1) := by decide +kernel
theorem dX1_isLargest_32 : decode cX1_isLargest 32 = .ok (.iinc 3 1, 3) := by decide +kernel
theorem dX1_isLargest_35 : decode cX1_isLargest 35 = .ok (.goto (-33), 3) := by decide +kernel
theorem dX1_isLargest_38 : decode cX1_isLargest 38 = .ok (.iconst 1, 1) := by decide +kernel
theorem dX1_isLargest_39 : decode cX1_isLargest 39 = .ok (.ireturn, 1) := by decide +kernel
abbrev cX1_size : ByteArray := prog_3_method_12_code
def yX1_size : MethodName := ⟨RX1, "size", "(I)I"⟩
theorem dX1_size_0 : decode cX1_size 0 = .ok (.iconst 0, 1) := by decide +kernel
theorem dX1_size_1 : decode cX1_size 1 = .ok (.istore_n 2, 1) := by decide +kernel
theorem dX1_size_2 : decode cX1_size 2 = .ok (.iconst 1, 1) := by decide +kernel
theorem dX1_size_3 : decode cX1_size 3 = .ok (.istore_n 3, 1) := by decide +kernel
theorem dX1_size_4 : decode cX1_size 4 = .ok (.iload_n 3, 1) := by decide +kernel
theorem dX1_size_5 : decode cX1_size 5 = .ok (.sipush 256, 3) := by decide +kernel
theorem dX1_size_8 : decode cX1_size 8 = .ok (.if_icmp .ge 33, 3) := by decide +kernel
theorem dX1_size_11 : decode cX1_size 11 = .ok (.iload_n 3, 1) := by decide +kernel
theorem dX1_size_12 : decode cX1_size 12 = .ok (.invokestatic 32, 3) := by decide +kernel
theorem dX1_size_15 : decode cX1_size 15 = .ok (.istore 4, 2) := by decide +kernel
theorem dX1_size_17 : decode cX1_size 17 = .ok (.iload 4, 2) := by decide +kernel
theorem dX1_size_19 : decode cX1_size 19 = .ok (.iload_n 2, 1) := by decide +kernel
theorem dX1_size_20 : decode cX1_size 20 = .ok (.if_icmp .le 15, 3) := by decide +kernel
theorem dX1_size_23 : decode cX1_size 23 = .ok (.aload_n 0, 1) := by decide +kernel
theorem dX1_size_24 : decode cX1_size 24 = .ok (.iload_n 3, 1) := by decide +kernel
theorem dX1_size_25 : decode cX1_size 25 = .ok (.iload_n 1, 1) := by decide +kernel
theorem dX1_size_26 : decode cX1_size 26 = .ok (.invokevirtual 21, 3) := by decide +kernel
theorem dX1_size_29 : decode cX1_size 29 = .ok (.ifCond .eq 6, 3) := by decide +kernel
theorem dX1_size_32 : decode cX1_size 32 = .ok (.iload 4, 2) := by decide +kernel
theorem dX1_size_34 : decode cX1_size 34 = .ok (.istore_n 2, 1) := by decide +kernel
theorem dX1_size_35 : decode cX1_size 35 = .ok (.iinc 3 1, 3) := by decide +kernel
theorem dX1_size_38 : decode cX1_size 38 = .ok (.goto (-34), 3) := by decide +kernel
theorem dX1_size_41 : decode cX1_size 41 = .ok (.iload_n 2, 1) := by decide +kernel
theorem dX1_size_42 : decode cX1_size 42 = .ok (.ireturn, 1) := by decide +kernel
abbrev cX1_goods : ByteArray := prog_3_method_11_code
def yX1_goods : MethodName := ⟨RX1, "goods", "(I)I"⟩
theorem dX1_goods_0 : decode cX1_goods 0 = .ok (.iconst 0, 1) := by decide +kernel
theorem dX1_goods_1 : decode cX1_goods 1 = .ok (.istore_n 1, 1) := by decide +kernel
theorem dX1_goods_2 : decode cX1_goods 2 = .ok (.iconst 0, 1) := by decide +kernel
theorem dX1_goods_3 : decode cX1_goods 3 = .ok (.istore_n 2, 1) := by decide +kernel
theorem dX1_goods_4 : decode cX1_goods 4 = .ok (.iload_n 2, 1) := by decide +kernel
theorem dX1_goods_5 : decode cX1_goods 5 = .ok (.bipush 8, 2) := by decide +kernel
theorem dX1_goods_7 : decode cX1_goods 7 = .ok (.if_icmp .ge 17, 3) := by decide +kernel
theorem dX1_goods_10 : decode cX1_goods 10 = .ok (.iload_n 1, 1) := by decide +kernel
theorem dX1_goods_11 : decode cX1_goods 11 = .ok (.iload_n 0, 1) := by decide +kernel
theorem dX1_goods_12 : decode cX1_goods 12 = .ok (.iload_n 2, 1) := by decide +kernel
theorem dX1_goods_13 : decode cX1_goods 13 = .ok (.ishr, 1) := by decide +kernel
theorem dX1_goods_14 : decode cX1_goods 14 = .ok (.iconst 1, 1) := by decide +kernel
theorem dX1_goods_15 : decode cX1_goods 15 = .ok (.iand, 1) := by decide +kernel
theorem dX1_goods_16 : decode cX1_goods 16 = .ok (.iadd, 1) := by decide +kernel
theorem dX1_goods_17 : decode cX1_goods 17 = .ok (.istore_n 1, 1) := by decide +kernel
theorem dX1_goods_18 : decode cX1_goods 18 = .ok (.iinc 2 1, 3) := by decide +kernel
theorem dX1_goods_21 : decode cX1_goods 21 = .ok (.goto (-17), 3) := by decide +kernel
theorem dX1_goods_24 : decode cX1_goods 24 = .ok (.iload_n 1, 1) := by decide +kernel
theorem dX1_goods_25 : decode cX1_goods 25 = .ok (.ireturn, 1) := by decide +kernel
abbrev cX1_next : ByteArray := prog_3_method_13_code
def yX1_next : MethodName := ⟨RX1, "next", "(II)I"⟩
theorem dX1_next_0 : decode cX1_next 0 = .ok (.iconst 1, 1) := by decide +kernel
theorem dX1_next_1 : decode cX1_next 1 = .ok (.istore_n 3, 1) := by decide +kernel
theorem dX1_next_2 : decode cX1_next 2 = .ok (.iload_n 3, 1) := by decide +kernel
theorem dX1_next_3 : decode cX1_next 3 = .ok (.sipush 256, 3) := by decide +kernel
theorem dX1_next_6 : decode cX1_next 6 = .ok (.if_icmp .ge 25, 3) := by decide +kernel
theorem dX1_next_9 : decode cX1_next 9 = .ok (.iload_n 3, 1) := by decide +kernel
theorem dX1_next_10 : decode cX1_next 10 = .ok (.iload_n 2, 1) := by decide +kernel
theorem dX1_next_11 : decode cX1_next 11 = .ok (.if_icmp .lt 14, 3) := by decide +kernel
theorem dX1_next_14 : decode cX1_next 14 = .ok (.aload_n 0, 1) := by decide +kernel
theorem dX1_next_15 : decode cX1_next 15 = .ok (.iload_n 3, 1) := by decide +kernel
theorem dX1_next_16 : decode cX1_next 16 = .ok (.iload_n 1, 1) := by decide +kernel
theorem dX1_next_17 : decode cX1_next 17 = .ok (.invokevirtual 21, 3) := by decide +kernel
theorem dX1_next_20 : decode cX1_next 20 = .ok (.ifCond .eq 5, 3) := by decide +kernel
theorem dX1_next_23 : decode cX1_next 23 = .ok (.iload_n 3, 1) := by decide +kernel
theorem dX1_next_24 : decode cX1_next 24 = .ok (.ireturn, 1) := by decide +kernel
theorem dX1_next_25 : decode cX1_next 25 = .ok (.iinc 3 1, 3) := by decide +kernel
theorem dX1_next_28 : decode cX1_next 28 = .ok (.goto (-26), 3) := by decide +kernel
theorem dX1_next_31 : decode cX1_next 31 = .ok (.iconst (-1), 1) := by decide +kernel
theorem dX1_next_32 : decode cX1_next 32 = .ok (.ireturn, 1) := by decide +kernel
abbrev cX1_closure : ByteArray := prog_3_method_14_code
def yX1_closure : MethodName := ⟨RX1, "closure", "(I)I"⟩
theorem dX1_closure_0 : decode cX1_closure 0 = .ok (.iload_n 1, 1) := by decide +kernel
theorem dX1_closure_1 : decode cX1_closure 1 = .ok (.sipush 255, 3) := by decide +kernel
theorem dX1_closure_4 : decode cX1_closure 4 = .ok (.iand, 1) := by decide +kernel
theorem dX1_closure_5 : decode cX1_closure 5 = .ok (.istore_n 2, 1) := by decide +kernel
theorem dX1_closure_6 : decode cX1_closure 6 = .ok (.aload_n 0, 1) := by decide +kernel
theorem dX1_closure_7 : decode cX1_closure 7 = .ok (.iload_n 2, 1) := by decide +kernel
theorem dX1_closure_8 : decode cX1_closure 8 = .ok (.invokevirtual 17, 3) := by decide +kernel
theorem dX1_closure_11 : decode cX1_closure 11 = .ok (.istore_n 3, 1) := by decide +kernel
theorem dX1_closure_12 : decode cX1_closure 12 = .ok (.iload_n 2, 1) := by decide +kernel
theorem dX1_closure_13 : decode cX1_closure 13 = .ok (.istore 4, 2) := by decide +kernel
theorem dX1_closure_15 : decode cX1_closure 15 = .ok (.iload_n 3, 1) := by decide +kernel
theorem dX1_closure_16 : decode cX1_closure 16 = .ok (.ifCond .ne 7, 3) := by decide +kernel
theorem dX1_closure_19 : decode cX1_closure 19 = .ok (.sipush 255, 3) := by decide +kernel
theorem dX1_closure_22 : decode cX1_closure 22 = .ok (.ireturn, 1) := by decide +kernel
theorem dX1_closure_23 : decode cX1_closure 23 = .ok (.iconst 0, 1) := by decide +kernel
theorem dX1_closure_24 : decode cX1_closure 24 = .ok (.istore 5, 2) := by decide +kernel
theorem dX1_closure_26 : decode cX1_closure 26 = .ok (.iload 5, 2) := by decide +kernel
theorem dX1_closure_28 : decode cX1_closure 28 = .ok (.sipush 256, 3) := by decide +kernel
theorem dX1_closure_31 : decode cX1_closure 31 = .ok (.if_icmp .ge 41, 3) := by decide +kernel
theorem dX1_closure_34 : decode cX1_closure 34 = .ok (.iload 5, 2) := by decide +kernel
theorem dX1_closure_36 : decode cX1_closure 36 = .ok (.iload_n 2, 1) := by decide +kernel
theorem dX1_closure_37 : decode cX1_closure 37 = .ok (.iand, 1) := by decide +kernel
theorem dX1_closure_38 : decode cX1_closure 38 = .ok (.iload_n 2, 1) := by decide +kernel
theorem dX1_closure_39 : decode cX1_closure 39 = .ok (.if_icmp .ne 27, 3) := by decide +kernel
theorem dX1_closure_42 : decode cX1_closure 42 = .ok (.aload_n 0, 1) := by decide +kernel
theorem dX1_closure_43 : decode cX1_closure 43 = .ok (.iload 5, 2) := by decide +kernel
theorem dX1_closure_45 : decode cX1_closure 45 = .ok (.invokevirtual 17, 3) := by decide +kernel
theorem dX1_closure_48 : decode cX1_closure 48 = .ok (.iload_n 3, 1) := by decide +kernel
theorem dX1_closure_49 : decode cX1_closure 49 = .ok (.if_icmp .ne 17, 3) := by decide +kernel
theorem dX1_closure_52 : decode cX1_closure 52 = .ok (.iload 5, 2) := by decide +kernel
theorem dX1_closure_54 : decode cX1_closure 54 = .ok (.iload 4, 2) := by decide +kernel
theorem dX1_closure_56 : decode cX1_closure 56 = .ok (.iand, 1) := by decide +kernel
theorem dX1_closure_57 : decode cX1_closure 57 = .ok (.iload 4, 2) := by decide +kernel
theorem dX1_closure_59 : decode cX1_closure 59 = .ok (.if_icmp .ne 7, 3) := by decide +kernel
theorem dX1_closure_62 : decode cX1_closure 62 = .ok (.iload 5, 2) := by decide +kernel
theorem dX1_closure_64 : decode cX1_closure 64 = .ok (.istore 4, 2) := by decide +kernel
theorem dX1_closure_66 : decode cX1_closure 66 = .ok (.iinc 5 1, 3) := by decide +kernel
theorem dX1_closure_69 : decode cX1_closure 69 = .ok (.goto (-43), 3) := by decide +kernel
theorem dX1_closure_72 : decode cX1_closure 72 = .ok (.iload 4, 2) := by decide +kernel
theorem dX1_closure_74 : decode cX1_closure 74 = .ok (.ireturn, 1) := by decide +kernel
abbrev cX1_rules : ByteArray := prog_3_method_15_code
def yX1_rules : MethodName := ⟨RX1, "rules", "(II)I"⟩
theorem dX1_rules_0 : decode cX1_rules 0 = .ok (.iconst 0, 1) := by decide +kernel
theorem dX1_rules_1 : decode cX1_rules 1 = .ok (.istore_n 3, 1) := by decide +kernel
theorem dX1_rules_2 : decode cX1_rules 2 = .ok (.iconst 1, 1) := by decide +kernel
theorem dX1_rules_3 : decode cX1_rules 3 = .ok (.istore 4, 2) := by decide +kernel
theorem dX1_rules_5 : decode cX1_rules 5 = .ok (.iload 4, 2) := by decide +kernel
theorem dX1_rules_7 : decode cX1_rules 7 = .ok (.sipush 256, 3) := by decide +kernel
theorem dX1_rules_10 : decode cX1_rules 10 = .ok (.if_icmp .ge 77, 3) := by decide +kernel
theorem dX1_rules_13 : decode cX1_rules 13 = .ok (.aload_n 0, 1) := by decide +kernel
theorem dX1_rules_14 : decode cX1_rules 14 = .ok (.iload 4, 2) := by decide +kernel
theorem dX1_rules_16 : decode cX1_rules 16 = .ok (.iload_n 1, 1) := by decide +kernel
theorem dX1_rules_17 : decode cX1_rules 17 = .ok (.invokevirtual 21, 3) := by decide +kernel
theorem dX1_rules_20 : decode cX1_rules 20 = .ok (.ifCond .eq 61, 3) := by decide +kernel
theorem dX1_rules_23 : decode cX1_rules 23 = .ok (.ldc2_w 35, 3) := by decide +kernel
theorem dX1_rules_26 : decode cX1_rules 26 = .ok (.aload_n 0, 1) := by decide +kernel
theorem dX1_rules_27 : decode cX1_rules 27 = .ok (.iload 4, 2) := by decide +kernel
theorem dX1_rules_29 : decode cX1_rules 29 = .ok (.invokevirtual 17, 3) := by decide +kernel
theorem dX1_rules_32 : decode cX1_rules 32 = .ok (.i2l, 1) := by decide +kernel
theorem dX1_rules_33 : decode cX1_rules 33 = .ok (.lmul, 1) := by decide +kernel
theorem dX1_rules_34 : decode cX1_rules 34 = .ok (.lstore 5, 2) := by decide +kernel
theorem dX1_rules_36 : decode cX1_rules 36 = .ok (.iconst 1, 1) := by decide +kernel
theorem dX1_rules_37 : decode cX1_rules 37 = .ok (.istore 7, 2) := by decide +kernel
theorem dX1_rules_39 : decode cX1_rules 39 = .ok (.iload 7, 2) := by decide +kernel
theorem dX1_rules_41 : decode cX1_rules 41 = .ok (.iload 4, 2) := by decide +kernel
theorem dX1_rules_43 : decode cX1_rules 43 = .ok (.if_icmp .ge 38, 3) := by decide +kernel
theorem dX1_rules_46 : decode cX1_rules 46 = .ok (.iload 7, 2) := by decide +kernel
theorem dX1_rules_48 : decode cX1_rules 48 = .ok (.iload 4, 2) := by decide +kernel
theorem dX1_rules_50 : decode cX1_rules 50 = .ok (.iand, 1) := by decide +kernel
theorem dX1_rules_51 : decode cX1_rules 51 = .ok (.iload 7, 2) := by decide +kernel
theorem dX1_rules_53 : decode cX1_rules 53 = .ok (.if_icmp .ne 22, 3) := by decide +kernel
theorem dX1_rules_56 : decode cX1_rules 56 = .ok (.lload 5, 2) := by decide +kernel
theorem dX1_rules_58 : decode cX1_rules 58 = .ok (.iload_n 2, 1) := by decide +kernel
theorem dX1_rules_59 : decode cX1_rules 59 = .ok (.i2l, 1) := by decide +kernel
theorem dX1_rules_60 : decode cX1_rules 60 = .ok (.aload_n 0, 1) := by decide +kernel
theorem dX1_rules_61 : decode cX1_rules 61 = .ok (.iload 7, 2) := by decide +kernel
theorem dX1_rules_63 : decode cX1_rules 63 = .ok (.invokevirtual 17, 3) := by decide +kernel
theorem dX1_rules_66 : decode cX1_rules 66 = .ok (.i2l, 1) := by decide +kernel
theorem dX1_rules_67 : decode cX1_rules 67 = .ok (.lmul, 1) := by decide +kernel
theorem dX1_rules_68 : decode cX1_rules 68 = .ok (.lcmp, 1) := by decide +kernel
theorem dX1_rules_69 : decode cX1_rules 69 = .ok (.ifCond .lt 6, 3) := by decide +kernel
theorem dX1_rules_72 : decode cX1_rules 72 = .ok (.iinc 3 1, 3) := by decide +kernel
theorem dX1_rules_75 : decode cX1_rules 75 = .ok (.iinc 7 1, 3) := by decide +kernel
theorem dX1_rules_78 : decode cX1_rules 78 = .ok (.goto (-39), 3) := by decide +kernel
theorem dX1_rules_81 : decode cX1_rules 81 = .ok (.iinc 4 1, 3) := by decide +kernel
theorem dX1_rules_84 : decode cX1_rules 84 = .ok (.goto (-79), 3) := by decide +kernel
theorem dX1_rules_87 : decode cX1_rules 87 = .ok (.iload_n 3, 1) := by decide +kernel
theorem dX1_rules_88 : decode cX1_rules 88 = .ok (.ireturn, 1) := by decide +kernel
theorem q12 : (Jvm.Cond.initialized "ItemSetsModel") ∈ lw_all := lw_g (lw_at lw_m0 2 rfl) rfl
theorem q122 : (Jvm.Cond.instantiable "ItemSetsModel" (2 : Nat)) ∈ lw_all := lw_g (lw_at lw_m0 112 rfl) rfl
theorem q124 : (Jvm.Cond.instanceMethod ({ cls := "ItemSetsModel", name := "<init>", desc := "()V" } : Jvm.MethodName)) ∈ lw_all := lw_g (lw_at lw_m0 114 rfl) rfl
theorem q125 : (Jvm.Cond.code ({ cls := "ItemSetsModel", name := "<init>", desc := "()V" } : Jvm.MethodName) prog_3_method_1_code (1 : Nat) (Option.none : Option Jvm.ClassFile.FieldType)) ∈ lw_all := lw_g (lw_at lw_m0 115 rfl) rfl
theorem q126 : (Jvm.Cond.methodLink "ItemSetsModel" (1 : Nat) ({ cls := "java/lang/Object", name := "<init>", desc := "()V" } : Jvm.MethodName)) ∈ lw_all := lw_g (lw_at lw_m0 116 rfl) rfl
theorem q127 : (Jvm.Cond.fieldLink "ItemSetsModel" (13 : Nat) "ItemSetsModel" "held" "I") ∈ lw_all := lw_g (lw_at lw_m0 117 rfl) rfl
theorem q128 : (Jvm.Cond.fieldLink "ItemSetsModel" (7 : Nat) "ItemSetsModel" "baskets" "[I") ∈ lw_all := lw_g (lw_at lw_m0 118 rfl) rfl
theorem q129 : (Jvm.Cond.lays "ItemSetsModel" "ItemSetsModel" "held" "I") ∈ lw_all := lw_g (lw_at lw_m0 119 rfl) rfl
theorem q130 : (Jvm.Cond.soleField "ItemSetsModel" "held") ∈ lw_all := lw_g (lw_at lw_m0 120 rfl) rfl
theorem q131 : (Jvm.Cond.laysFinal "ItemSetsModel" "ItemSetsModel" "baskets" "[I") ∈ lw_all := lw_g (lw_at lw_m0 121 rfl) rfl
theorem q132 : (Jvm.Cond.soleField "ItemSetsModel" "baskets") ∈ lw_all := lw_g (lw_at lw_m0 122 rfl) rfl
theorem q133 : (Jvm.Cond.superclass "ItemSetsModel" "java/lang/Object") ∈ lw_all := lw_g (lw_at lw_m0 123 rfl) rfl
theorem q135 : (Jvm.Cond.instanceMethod ({ cls := "ItemSetsModel", name := "add", desc := "(I)I" } : Jvm.MethodName)) ∈ lw_all := lw_g (lw_at lw_m0 125 rfl) rfl
theorem q136 : (Jvm.Cond.selects "ItemSetsModel" ({ cls := "ItemSetsModel", name := "add", desc := "(I)I" } : Jvm.MethodName) ({ cls := "ItemSetsModel", name := "add", desc := "(I)I" } : Jvm.MethodName)) ∈ lw_all := lw_g (lw_at lw_m0 126 rfl) rfl
theorem q137 : (Jvm.Cond.code ({ cls := "ItemSetsModel", name := "add", desc := "(I)I" } : Jvm.MethodName) prog_3_method_2_code (2 : Nat) (Option.some Jvm.ClassFile.FieldType.int)) ∈ lw_all := lw_g (lw_at lw_m0 127 rfl) rfl
theorem q139 : (Jvm.Cond.instanceMethod ({ cls := "ItemSetsModel", name := "drop", desc := "(I)I" } : Jvm.MethodName)) ∈ lw_all := lw_g (lw_at lw_m0 129 rfl) rfl
theorem q140 : (Jvm.Cond.selects "ItemSetsModel" ({ cls := "ItemSetsModel", name := "drop", desc := "(I)I" } : Jvm.MethodName) ({ cls := "ItemSetsModel", name := "drop", desc := "(I)I" } : Jvm.MethodName)) ∈ lw_all := lw_g (lw_at lw_m0 130 rfl) rfl
theorem q141 : (Jvm.Cond.code ({ cls := "ItemSetsModel", name := "drop", desc := "(I)I" } : Jvm.MethodName) prog_3_method_3_code (3 : Nat) (Option.some Jvm.ClassFile.FieldType.int)) ∈ lw_all := lw_g (lw_at lw_m0 131 rfl) rfl
theorem q143 : (Jvm.Cond.instanceMethod ({ cls := "ItemSetsModel", name := "support", desc := "(I)I" } : Jvm.MethodName)) ∈ lw_all := lw_g (lw_at lw_m0 133 rfl) rfl
theorem q144 : (Jvm.Cond.selects "ItemSetsModel" ({ cls := "ItemSetsModel", name := "support", desc := "(I)I" } : Jvm.MethodName) ({ cls := "ItemSetsModel", name := "support", desc := "(I)I" } : Jvm.MethodName)) ∈ lw_all := lw_g (lw_at lw_m0 134 rfl) rfl
theorem q145 : (Jvm.Cond.code ({ cls := "ItemSetsModel", name := "support", desc := "(I)I" } : Jvm.MethodName) prog_3_method_4_code (5 : Nat) (Option.some Jvm.ClassFile.FieldType.int)) ∈ lw_all := lw_g (lw_at lw_m0 135 rfl) rfl
theorem q147 : (Jvm.Cond.instanceMethod ({ cls := "ItemSetsModel", name := "often", desc := "(I)I" } : Jvm.MethodName)) ∈ lw_all := lw_g (lw_at lw_m0 137 rfl) rfl
theorem q148 : (Jvm.Cond.selects "ItemSetsModel" ({ cls := "ItemSetsModel", name := "often", desc := "(I)I" } : Jvm.MethodName) ({ cls := "ItemSetsModel", name := "often", desc := "(I)I" } : Jvm.MethodName)) ∈ lw_all := lw_g (lw_at lw_m0 138 rfl) rfl
theorem q149 : (Jvm.Cond.code ({ cls := "ItemSetsModel", name := "often", desc := "(I)I" } : Jvm.MethodName) prog_3_method_6_code (4 : Nat) (Option.some Jvm.ClassFile.FieldType.int)) ∈ lw_all := lw_g (lw_at lw_m0 139 rfl) rfl
theorem q150 : (Jvm.Cond.methodLink "ItemSetsModel" (21 : Nat) ({ cls := "ItemSetsModel", name := "isOften", desc := "(II)Z" } : Jvm.MethodName)) ∈ lw_all := lw_g (lw_at lw_m0 140 rfl) rfl
theorem q151 : (Jvm.Cond.privateMethod ({ cls := "ItemSetsModel", name := "isOften", desc := "(II)Z" } : Jvm.MethodName)) ∈ lw_tbl := lw_at lw_m0 141 rfl
theorem q152 : (Jvm.Cond.instanceMethod ({ cls := "ItemSetsModel", name := "isOften", desc := "(II)Z" } : Jvm.MethodName)) ∈ lw_all := lw_g (lw_at lw_m0 142 rfl) rfl
theorem q153 : (Jvm.Cond.code ({ cls := "ItemSetsModel", name := "isOften", desc := "(II)Z" } : Jvm.MethodName) prog_3_method_5_code (3 : Nat) (Option.some Jvm.ClassFile.FieldType.boolean)) ∈ lw_all := lw_g (lw_at lw_m0 143 rfl) rfl
theorem q154 : (Jvm.Cond.methodLink "ItemSetsModel" (17 : Nat) ({ cls := "ItemSetsModel", name := "support", desc := "(I)I" } : Jvm.MethodName)) ∈ lw_all := lw_g (lw_at lw_m0 144 rfl) rfl
theorem q156 : (Jvm.Cond.instanceMethod ({ cls := "ItemSetsModel", name := "full", desc := "(I)I" } : Jvm.MethodName)) ∈ lw_all := lw_g (lw_at lw_m0 146 rfl) rfl
theorem q157 : (Jvm.Cond.selects "ItemSetsModel" ({ cls := "ItemSetsModel", name := "full", desc := "(I)I" } : Jvm.MethodName) ({ cls := "ItemSetsModel", name := "full", desc := "(I)I" } : Jvm.MethodName)) ∈ lw_all := lw_g (lw_at lw_m0 147 rfl) rfl
theorem q158 : (Jvm.Cond.code ({ cls := "ItemSetsModel", name := "full", desc := "(I)I" } : Jvm.MethodName) prog_3_method_8_code (4 : Nat) (Option.some Jvm.ClassFile.FieldType.int)) ∈ lw_all := lw_g (lw_at lw_m0 148 rfl) rfl
theorem q159 : (Jvm.Cond.methodLink "ItemSetsModel" (25 : Nat) ({ cls := "ItemSetsModel", name := "isFull", desc := "(I)Z" } : Jvm.MethodName)) ∈ lw_all := lw_g (lw_at lw_m0 149 rfl) rfl
theorem q160 : (Jvm.Cond.privateMethod ({ cls := "ItemSetsModel", name := "isFull", desc := "(I)Z" } : Jvm.MethodName)) ∈ lw_tbl := lw_at lw_m0 150 rfl
theorem q161 : (Jvm.Cond.instanceMethod ({ cls := "ItemSetsModel", name := "isFull", desc := "(I)Z" } : Jvm.MethodName)) ∈ lw_all := lw_g (lw_at lw_m0 151 rfl) rfl
theorem q162 : (Jvm.Cond.code ({ cls := "ItemSetsModel", name := "isFull", desc := "(I)Z" } : Jvm.MethodName) prog_3_method_7_code (4 : Nat) (Option.some Jvm.ClassFile.FieldType.boolean)) ∈ lw_all := lw_g (lw_at lw_m0 152 rfl) rfl
theorem q164 : (Jvm.Cond.instanceMethod ({ cls := "ItemSetsModel", name := "largest", desc := "(I)I" } : Jvm.MethodName)) ∈ lw_all := lw_g (lw_at lw_m0 154 rfl) rfl
theorem q165 : (Jvm.Cond.selects "ItemSetsModel" ({ cls := "ItemSetsModel", name := "largest", desc := "(I)I" } : Jvm.MethodName) ({ cls := "ItemSetsModel", name := "largest", desc := "(I)I" } : Jvm.MethodName)) ∈ lw_all := lw_g (lw_at lw_m0 155 rfl) rfl
theorem q166 : (Jvm.Cond.code ({ cls := "ItemSetsModel", name := "largest", desc := "(I)I" } : Jvm.MethodName) prog_3_method_10_code (4 : Nat) (Option.some Jvm.ClassFile.FieldType.int)) ∈ lw_all := lw_g (lw_at lw_m0 156 rfl) rfl
theorem q167 : (Jvm.Cond.methodLink "ItemSetsModel" (29 : Nat) ({ cls := "ItemSetsModel", name := "isLargest", desc := "(II)Z" } : Jvm.MethodName)) ∈ lw_all := lw_g (lw_at lw_m0 157 rfl) rfl
theorem q168 : (Jvm.Cond.privateMethod ({ cls := "ItemSetsModel", name := "isLargest", desc := "(II)Z" } : Jvm.MethodName)) ∈ lw_tbl := lw_at lw_m0 158 rfl
theorem q169 : (Jvm.Cond.instanceMethod ({ cls := "ItemSetsModel", name := "isLargest", desc := "(II)Z" } : Jvm.MethodName)) ∈ lw_all := lw_g (lw_at lw_m0 159 rfl) rfl
theorem q170 : (Jvm.Cond.code ({ cls := "ItemSetsModel", name := "isLargest", desc := "(II)Z" } : Jvm.MethodName) prog_3_method_9_code (4 : Nat) (Option.some Jvm.ClassFile.FieldType.boolean)) ∈ lw_all := lw_g (lw_at lw_m0 160 rfl) rfl
theorem q172 : (Jvm.Cond.instanceMethod ({ cls := "ItemSetsModel", name := "size", desc := "(I)I" } : Jvm.MethodName)) ∈ lw_all := lw_g (lw_at lw_m0 162 rfl) rfl
theorem q173 : (Jvm.Cond.selects "ItemSetsModel" ({ cls := "ItemSetsModel", name := "size", desc := "(I)I" } : Jvm.MethodName) ({ cls := "ItemSetsModel", name := "size", desc := "(I)I" } : Jvm.MethodName)) ∈ lw_all := lw_g (lw_at lw_m0 163 rfl) rfl
theorem q174 : (Jvm.Cond.code ({ cls := "ItemSetsModel", name := "size", desc := "(I)I" } : Jvm.MethodName) prog_3_method_12_code (5 : Nat) (Option.some Jvm.ClassFile.FieldType.int)) ∈ lw_all := lw_g (lw_at lw_m0 164 rfl) rfl
theorem q175 : (Jvm.Cond.methodLink "ItemSetsModel" (32 : Nat) ({ cls := "ItemSetsModel", name := "goods", desc := "(I)I" } : Jvm.MethodName)) ∈ lw_all := lw_g (lw_at lw_m0 165 rfl) rfl
theorem q176 : (Jvm.Cond.static ({ cls := "ItemSetsModel", name := "goods", desc := "(I)I" } : Jvm.MethodName)) ∈ lw_all := lw_g (lw_at lw_m0 166 rfl) rfl
theorem q177 : (Jvm.Cond.code ({ cls := "ItemSetsModel", name := "goods", desc := "(I)I" } : Jvm.MethodName) prog_3_method_11_code (3 : Nat) (Option.some Jvm.ClassFile.FieldType.int)) ∈ lw_all := lw_g (lw_at lw_m0 167 rfl) rfl
theorem q179 : (Jvm.Cond.instanceMethod ({ cls := "ItemSetsModel", name := "next", desc := "(II)I" } : Jvm.MethodName)) ∈ lw_all := lw_g (lw_at lw_m0 169 rfl) rfl
theorem q180 : (Jvm.Cond.selects "ItemSetsModel" ({ cls := "ItemSetsModel", name := "next", desc := "(II)I" } : Jvm.MethodName) ({ cls := "ItemSetsModel", name := "next", desc := "(II)I" } : Jvm.MethodName)) ∈ lw_all := lw_g (lw_at lw_m0 170 rfl) rfl
theorem q181 : (Jvm.Cond.code ({ cls := "ItemSetsModel", name := "next", desc := "(II)I" } : Jvm.MethodName) prog_3_method_13_code (4 : Nat) (Option.some Jvm.ClassFile.FieldType.int)) ∈ lw_all := lw_g (lw_at lw_m0 171 rfl) rfl
theorem q183 : (Jvm.Cond.instanceMethod ({ cls := "ItemSetsModel", name := "closure", desc := "(I)I" } : Jvm.MethodName)) ∈ lw_all := lw_g (lw_at lw_m0 173 rfl) rfl
theorem q184 : (Jvm.Cond.selects "ItemSetsModel" ({ cls := "ItemSetsModel", name := "closure", desc := "(I)I" } : Jvm.MethodName) ({ cls := "ItemSetsModel", name := "closure", desc := "(I)I" } : Jvm.MethodName)) ∈ lw_all := lw_g (lw_at lw_m0 174 rfl) rfl
theorem q185 : (Jvm.Cond.code ({ cls := "ItemSetsModel", name := "closure", desc := "(I)I" } : Jvm.MethodName) prog_3_method_14_code (6 : Nat) (Option.some Jvm.ClassFile.FieldType.int)) ∈ lw_all := lw_g (lw_at lw_m0 175 rfl) rfl
theorem q187 : (Jvm.Cond.instanceMethod ({ cls := "ItemSetsModel", name := "rules", desc := "(II)I" } : Jvm.MethodName)) ∈ lw_all := lw_g (lw_at lw_m0 177 rfl) rfl
theorem q188 : (Jvm.Cond.selects "ItemSetsModel" ({ cls := "ItemSetsModel", name := "rules", desc := "(II)I" } : Jvm.MethodName) ({ cls := "ItemSetsModel", name := "rules", desc := "(II)I" } : Jvm.MethodName)) ∈ lw_all := lw_g (lw_at lw_m0 178 rfl) rfl
theorem q189 : (Jvm.Cond.code ({ cls := "ItemSetsModel", name := "rules", desc := "(II)I" } : Jvm.MethodName) prog_3_method_15_code (8 : Nat) (Option.some Jvm.ClassFile.FieldType.int)) ∈ lw_all := lw_g (lw_at lw_m0 179 rfl) rfl
theorem q190 : (Jvm.Cond.constantLong "ItemSetsModel" (35 : Nat) (100 : Int64)) ∈ lw_all := lw_g (lw_at lw_m0 180 rfl) rfl
theorem in_X1 : ∀ w ∈ wsX10, w ∈ lw_all := lw_in wsX10 [129, 131] (by decide +kernel) (by decide +kernel)
end
section
/-! java/lang/Object -/
set_option maxRecDepth 100000
def RJ0 : String := "java/lang/Object"
abbrev cJ0_init : ByteArray := object_method_1_code
def yJ0_init : MethodName := ⟨RJ0, "<init>", "()V"⟩
theorem dJ0_init_0 : decode cJ0_init 0 = .ok (.return_, 1) := by decide +kernel
theorem q19 : (Jvm.Cond.instanceMethod ({ cls := "java/lang/Object", name := "<init>", desc := "()V" } : Jvm.MethodName)) ∈ lw_all := lw_g (lw_at lw_m0 9 rfl) rfl
theorem q20 : (Jvm.Cond.code ({ cls := "java/lang/Object", name := "<init>", desc := "()V" } : Jvm.MethodName) object_method_1_code (1 : Nat) (Option.none : Option Jvm.ClassFile.FieldType)) ∈ lw_all := lw_g (lw_at lw_m0 10 rfl) rfl

theorem q46 : (Jvm.Cond.arrayClass Jvm.ClassFile.FieldType.int) ∈ lw_all := lw_g (lw_at lw_m0 36 rfl) rfl
set_option maxRecDepth 100000
theorem q47 : (Jvm.Cond.arrayClass Jvm.ClassFile.FieldType.long) ∈ lw_all := lw_g (lw_at lw_m0 37 rfl) rfl

theorem q10 : (Jvm.Cond.initialized "ItemSetsLaw") ∈ lw_all := lw_g (lw_at lw_m0 0 rfl) rfl
set_option maxRecDepth 100000
theorem q13 : (Jvm.Cond.classLink "ItemSetsLaw" (7 : Nat) "ItemSets") ∈ lw_all := lw_g (lw_at lw_m0 3 rfl) rfl
theorem q15 : (Jvm.Cond.methodLink "ItemSetsLaw" (9 : Nat) ({ cls := "ItemSets", name := "<init>", desc := "()V" } : Jvm.MethodName)) ∈ lw_all := lw_g (lw_at lw_m0 5 rfl) rfl
theorem q48 : (Jvm.Cond.methodLink "ItemSetsLaw" (13 : Nat) ({ cls := "ItemSets", name := "add", desc := "(I)I" } : Jvm.MethodName)) ∈ lw_all := lw_g (lw_at lw_m0 38 rfl) rfl
theorem q52 : (Jvm.Cond.methodLink "ItemSetsLaw" (18 : Nat) ({ cls := "ItemSets", name := "drop", desc := "(I)I" } : Jvm.MethodName)) ∈ lw_all := lw_g (lw_at lw_m0 42 rfl) rfl
theorem q56 : (Jvm.Cond.methodLink "ItemSetsLaw" (22 : Nat) ({ cls := "ItemSets", name := "support", desc := "(I)I" } : Jvm.MethodName)) ∈ lw_all := lw_g (lw_at lw_m0 46 rfl) rfl
theorem q71 : (Jvm.Cond.methodLink "ItemSetsLaw" (26 : Nat) ({ cls := "ItemSets", name := "often", desc := "(I)I" } : Jvm.MethodName)) ∈ lw_all := lw_g (lw_at lw_m0 61 rfl) rfl
theorem q87 : (Jvm.Cond.methodLink "ItemSetsLaw" (30 : Nat) ({ cls := "ItemSets", name := "full", desc := "(I)I" } : Jvm.MethodName)) ∈ lw_all := lw_g (lw_at lw_m0 77 rfl) rfl
theorem q96 : (Jvm.Cond.methodLink "ItemSetsLaw" (34 : Nat) ({ cls := "ItemSets", name := "largest", desc := "(I)I" } : Jvm.MethodName)) ∈ lw_all := lw_g (lw_at lw_m0 86 rfl) rfl
theorem q100 : (Jvm.Cond.methodLink "ItemSetsLaw" (38 : Nat) ({ cls := "ItemSets", name := "size", desc := "(I)I" } : Jvm.MethodName)) ∈ lw_all := lw_g (lw_at lw_m0 90 rfl) rfl
theorem q104 : (Jvm.Cond.methodLink "ItemSetsLaw" (42 : Nat) ({ cls := "ItemSets", name := "next", desc := "(II)I" } : Jvm.MethodName)) ∈ lw_all := lw_g (lw_at lw_m0 94 rfl) rfl
theorem q108 : (Jvm.Cond.methodLink "ItemSetsLaw" (47 : Nat) ({ cls := "ItemSets", name := "closure", desc := "(I)I" } : Jvm.MethodName)) ∈ lw_all := lw_g (lw_at lw_m0 98 rfl) rfl
theorem q112 : (Jvm.Cond.methodLink "ItemSetsLaw" (51 : Nat) ({ cls := "ItemSets", name := "rules", desc := "(II)I" } : Jvm.MethodName)) ∈ lw_all := lw_g (lw_at lw_m0 102 rfl) rfl
theorem q121 : (Jvm.Cond.classLink "ItemSetsLaw" (10 : Nat) "ItemSetsModel") ∈ lw_all := lw_g (lw_at lw_m0 111 rfl) rfl
theorem q123 : (Jvm.Cond.methodLink "ItemSetsLaw" (12 : Nat) ({ cls := "ItemSetsModel", name := "<init>", desc := "()V" } : Jvm.MethodName)) ∈ lw_all := lw_g (lw_at lw_m0 113 rfl) rfl
theorem q134 : (Jvm.Cond.methodLink "ItemSetsLaw" (17 : Nat) ({ cls := "ItemSetsModel", name := "add", desc := "(I)I" } : Jvm.MethodName)) ∈ lw_all := lw_g (lw_at lw_m0 124 rfl) rfl
theorem q138 : (Jvm.Cond.methodLink "ItemSetsLaw" (21 : Nat) ({ cls := "ItemSetsModel", name := "drop", desc := "(I)I" } : Jvm.MethodName)) ∈ lw_all := lw_g (lw_at lw_m0 128 rfl) rfl
theorem q142 : (Jvm.Cond.methodLink "ItemSetsLaw" (25 : Nat) ({ cls := "ItemSetsModel", name := "support", desc := "(I)I" } : Jvm.MethodName)) ∈ lw_all := lw_g (lw_at lw_m0 132 rfl) rfl
theorem q146 : (Jvm.Cond.methodLink "ItemSetsLaw" (29 : Nat) ({ cls := "ItemSetsModel", name := "often", desc := "(I)I" } : Jvm.MethodName)) ∈ lw_all := lw_g (lw_at lw_m0 136 rfl) rfl
theorem q155 : (Jvm.Cond.methodLink "ItemSetsLaw" (33 : Nat) ({ cls := "ItemSetsModel", name := "full", desc := "(I)I" } : Jvm.MethodName)) ∈ lw_all := lw_g (lw_at lw_m0 145 rfl) rfl
theorem q163 : (Jvm.Cond.methodLink "ItemSetsLaw" (37 : Nat) ({ cls := "ItemSetsModel", name := "largest", desc := "(I)I" } : Jvm.MethodName)) ∈ lw_all := lw_g (lw_at lw_m0 153 rfl) rfl
theorem q171 : (Jvm.Cond.methodLink "ItemSetsLaw" (41 : Nat) ({ cls := "ItemSetsModel", name := "size", desc := "(I)I" } : Jvm.MethodName)) ∈ lw_all := lw_g (lw_at lw_m0 161 rfl) rfl
theorem q178 : (Jvm.Cond.methodLink "ItemSetsLaw" (46 : Nat) ({ cls := "ItemSetsModel", name := "next", desc := "(II)I" } : Jvm.MethodName)) ∈ lw_all := lw_g (lw_at lw_m0 168 rfl) rfl
theorem q182 : (Jvm.Cond.methodLink "ItemSetsLaw" (50 : Nat) ({ cls := "ItemSetsModel", name := "closure", desc := "(I)I" } : Jvm.MethodName)) ∈ lw_all := lw_g (lw_at lw_m0 172 rfl) rfl
theorem q186 : (Jvm.Cond.methodLink "ItemSetsLaw" (54 : Nat) ({ cls := "ItemSetsModel", name := "rules", desc := "(II)I" } : Jvm.MethodName)) ∈ lw_all := lw_g (lw_at lw_m0 176 rfl) rfl

/-! the law's own entry -/
set_option maxRecDepth 100000
abbrev cL_law : ByteArray := code
theorem dL_law_0 : decode cL_law 0 = .ok (.new 7, 3) := by decide +kernel
theorem dL_law_3 : decode cL_law 3 = .ok (.dup, 1) := by decide +kernel
theorem dL_law_4 : decode cL_law 4 = .ok (.invokespecial 9, 3) := by decide +kernel
theorem dL_law_7 : decode cL_law 7 = .ok (.astore_n 1, 1) := by decide +kernel
theorem dL_law_8 : decode cL_law 8 = .ok (.new 10, 3) := by decide +kernel
theorem dL_law_11 : decode cL_law 11 = .ok (.dup, 1) := by decide +kernel
theorem dL_law_12 : decode cL_law 12 = .ok (.invokespecial 12, 3) := by decide +kernel
theorem dL_law_15 : decode cL_law 15 = .ok (.astore_n 2, 1) := by decide +kernel
theorem dL_law_16 : decode cL_law 16 = .ok (.iconst 0, 1) := by decide +kernel
theorem dL_law_17 : decode cL_law 17 = .ok (.istore_n 3, 1) := by decide +kernel
theorem dL_law_18 : decode cL_law 18 = .ok (.iload_n 3, 1) := by decide +kernel
theorem dL_law_19 : decode cL_law 19 = .ok (.aload_n 0, 1) := by decide +kernel
theorem dL_law_20 : decode cL_law 20 = .ok (.arraylength, 1) := by decide +kernel
theorem dL_law_21 : decode cL_law 21 = .ok (.iconst 3, 1) := by decide +kernel
theorem dL_law_22 : decode cL_law 22 = .ok (.isub, 1) := by decide +kernel
theorem dL_law_23 : decode cL_law 23 = .ok (.if_icmp .gt 321, 3) := by decide +kernel
theorem dL_law_26 : decode cL_law 26 = .ok (.aload_n 0, 1) := by decide +kernel
theorem dL_law_27 : decode cL_law 27 = .ok (.iload_n 3, 1) := by decide +kernel
theorem dL_law_28 : decode cL_law 28 = .ok (.iaload, 1) := by decide +kernel
theorem dL_law_29 : decode cL_law 29 = .ok (.bipush 15, 2) := by decide +kernel
theorem dL_law_31 : decode cL_law 31 = .ok (.iand, 1) := by decide +kernel
theorem dL_law_32 : decode cL_law 32 = .ok (.tableswitch 306 0 9 #[56, 79, 102, 125, 148, 171, 194, 217, 250, 273], 56) := by decide +kernel
theorem dL_law_88 : decode cL_law 88 = .ok (.aload_n 1, 1) := by decide +kernel
theorem dL_law_89 : decode cL_law 89 = .ok (.aload_n 0, 1) := by decide +kernel
theorem dL_law_90 : decode cL_law 90 = .ok (.iload_n 3, 1) := by decide +kernel
theorem dL_law_91 : decode cL_law 91 = .ok (.iconst 1, 1) := by decide +kernel
theorem dL_law_92 : decode cL_law 92 = .ok (.iadd, 1) := by decide +kernel
theorem dL_law_93 : decode cL_law 93 = .ok (.iaload, 1) := by decide +kernel
theorem dL_law_94 : decode cL_law 94 = .ok (.invokevirtual 13, 3) := by decide +kernel
theorem dL_law_97 : decode cL_law 97 = .ok (.aload_n 2, 1) := by decide +kernel
theorem dL_law_98 : decode cL_law 98 = .ok (.aload_n 0, 1) := by decide +kernel
theorem dL_law_99 : decode cL_law 99 = .ok (.iload_n 3, 1) := by decide +kernel
theorem dL_law_100 : decode cL_law 100 = .ok (.iconst 1, 1) := by decide +kernel
theorem dL_law_101 : decode cL_law 101 = .ok (.iadd, 1) := by decide +kernel
theorem dL_law_102 : decode cL_law 102 = .ok (.iaload, 1) := by decide +kernel
theorem dL_law_103 : decode cL_law 103 = .ok (.invokevirtual 17, 3) := by decide +kernel
theorem dL_law_106 : decode cL_law 106 = .ok (.if_icmp .eq 232, 3) := by decide +kernel
theorem dL_law_109 : decode cL_law 109 = .ok (.iconst 0, 1) := by decide +kernel
theorem dL_law_110 : decode cL_law 110 = .ok (.ireturn, 1) := by decide +kernel
theorem dL_law_111 : decode cL_law 111 = .ok (.aload_n 1, 1) := by decide +kernel
theorem dL_law_112 : decode cL_law 112 = .ok (.aload_n 0, 1) := by decide +kernel
theorem dL_law_113 : decode cL_law 113 = .ok (.iload_n 3, 1) := by decide +kernel
theorem dL_law_114 : decode cL_law 114 = .ok (.iconst 1, 1) := by decide +kernel
theorem dL_law_115 : decode cL_law 115 = .ok (.iadd, 1) := by decide +kernel
theorem dL_law_116 : decode cL_law 116 = .ok (.iaload, 1) := by decide +kernel
theorem dL_law_117 : decode cL_law 117 = .ok (.invokevirtual 18, 3) := by decide +kernel
theorem dL_law_120 : decode cL_law 120 = .ok (.aload_n 2, 1) := by decide +kernel
theorem dL_law_121 : decode cL_law 121 = .ok (.aload_n 0, 1) := by decide +kernel
theorem dL_law_122 : decode cL_law 122 = .ok (.iload_n 3, 1) := by decide +kernel
theorem dL_law_123 : decode cL_law 123 = .ok (.iconst 1, 1) := by decide +kernel
theorem dL_law_124 : decode cL_law 124 = .ok (.iadd, 1) := by decide +kernel
theorem dL_law_125 : decode cL_law 125 = .ok (.iaload, 1) := by decide +kernel
theorem dL_law_126 : decode cL_law 126 = .ok (.invokevirtual 21, 3) := by decide +kernel
theorem dL_law_129 : decode cL_law 129 = .ok (.if_icmp .eq 209, 3) := by decide +kernel
theorem dL_law_132 : decode cL_law 132 = .ok (.iconst 0, 1) := by decide +kernel
theorem dL_law_133 : decode cL_law 133 = .ok (.ireturn, 1) := by decide +kernel
theorem dL_law_134 : decode cL_law 134 = .ok (.aload_n 1, 1) := by decide +kernel
theorem dL_law_135 : decode cL_law 135 = .ok (.aload_n 0, 1) := by decide +kernel
theorem dL_law_136 : decode cL_law 136 = .ok (.iload_n 3, 1) := by decide +kernel
theorem dL_law_137 : decode cL_law 137 = .ok (.iconst 1, 1) := by decide +kernel
theorem dL_law_138 : decode cL_law 138 = .ok (.iadd, 1) := by decide +kernel
theorem dL_law_139 : decode cL_law 139 = .ok (.iaload, 1) := by decide +kernel
theorem dL_law_140 : decode cL_law 140 = .ok (.invokevirtual 22, 3) := by decide +kernel
theorem dL_law_143 : decode cL_law 143 = .ok (.aload_n 2, 1) := by decide +kernel
theorem dL_law_144 : decode cL_law 144 = .ok (.aload_n 0, 1) := by decide +kernel
theorem dL_law_145 : decode cL_law 145 = .ok (.iload_n 3, 1) := by decide +kernel
theorem dL_law_146 : decode cL_law 146 = .ok (.iconst 1, 1) := by decide +kernel
theorem dL_law_147 : decode cL_law 147 = .ok (.iadd, 1) := by decide +kernel
theorem dL_law_148 : decode cL_law 148 = .ok (.iaload, 1) := by decide +kernel
theorem dL_law_149 : decode cL_law 149 = .ok (.invokevirtual 25, 3) := by decide +kernel
theorem dL_law_152 : decode cL_law 152 = .ok (.if_icmp .eq 186, 3) := by decide +kernel
theorem dL_law_155 : decode cL_law 155 = .ok (.iconst 0, 1) := by decide +kernel
theorem dL_law_156 : decode cL_law 156 = .ok (.ireturn, 1) := by decide +kernel
theorem dL_law_157 : decode cL_law 157 = .ok (.aload_n 1, 1) := by decide +kernel
theorem dL_law_158 : decode cL_law 158 = .ok (.aload_n 0, 1) := by decide +kernel
theorem dL_law_159 : decode cL_law 159 = .ok (.iload_n 3, 1) := by decide +kernel
theorem dL_law_160 : decode cL_law 160 = .ok (.iconst 1, 1) := by decide +kernel
theorem dL_law_161 : decode cL_law 161 = .ok (.iadd, 1) := by decide +kernel
theorem dL_law_162 : decode cL_law 162 = .ok (.iaload, 1) := by decide +kernel
theorem dL_law_163 : decode cL_law 163 = .ok (.invokevirtual 26, 3) := by decide +kernel
theorem dL_law_166 : decode cL_law 166 = .ok (.aload_n 2, 1) := by decide +kernel
theorem dL_law_167 : decode cL_law 167 = .ok (.aload_n 0, 1) := by decide +kernel
theorem dL_law_168 : decode cL_law 168 = .ok (.iload_n 3, 1) := by decide +kernel
theorem dL_law_169 : decode cL_law 169 = .ok (.iconst 1, 1) := by decide +kernel
theorem dL_law_170 : decode cL_law 170 = .ok (.iadd, 1) := by decide +kernel
theorem dL_law_171 : decode cL_law 171 = .ok (.iaload, 1) := by decide +kernel
theorem dL_law_172 : decode cL_law 172 = .ok (.invokevirtual 29, 3) := by decide +kernel
theorem dL_law_175 : decode cL_law 175 = .ok (.if_icmp .eq 163, 3) := by decide +kernel
theorem dL_law_178 : decode cL_law 178 = .ok (.iconst 0, 1) := by decide +kernel
theorem dL_law_179 : decode cL_law 179 = .ok (.ireturn, 1) := by decide +kernel
theorem dL_law_180 : decode cL_law 180 = .ok (.aload_n 1, 1) := by decide +kernel
theorem dL_law_181 : decode cL_law 181 = .ok (.aload_n 0, 1) := by decide +kernel
theorem dL_law_182 : decode cL_law 182 = .ok (.iload_n 3, 1) := by decide +kernel
theorem dL_law_183 : decode cL_law 183 = .ok (.iconst 1, 1) := by decide +kernel
theorem dL_law_184 : decode cL_law 184 = .ok (.iadd, 1) := by decide +kernel
theorem dL_law_185 : decode cL_law 185 = .ok (.iaload, 1) := by decide +kernel
theorem dL_law_186 : decode cL_law 186 = .ok (.invokevirtual 30, 3) := by decide +kernel
theorem dL_law_189 : decode cL_law 189 = .ok (.aload_n 2, 1) := by decide +kernel
theorem dL_law_190 : decode cL_law 190 = .ok (.aload_n 0, 1) := by decide +kernel
theorem dL_law_191 : decode cL_law 191 = .ok (.iload_n 3, 1) := by decide +kernel
theorem dL_law_192 : decode cL_law 192 = .ok (.iconst 1, 1) := by decide +kernel
theorem dL_law_193 : decode cL_law 193 = .ok (.iadd, 1) := by decide +kernel
theorem dL_law_194 : decode cL_law 194 = .ok (.iaload, 1) := by decide +kernel
theorem dL_law_195 : decode cL_law 195 = .ok (.invokevirtual 33, 3) := by decide +kernel
theorem dL_law_198 : decode cL_law 198 = .ok (.if_icmp .eq 140, 3) := by decide +kernel
theorem dL_law_201 : decode cL_law 201 = .ok (.iconst 0, 1) := by decide +kernel
theorem dL_law_202 : decode cL_law 202 = .ok (.ireturn, 1) := by decide +kernel
theorem dL_law_203 : decode cL_law 203 = .ok (.aload_n 1, 1) := by decide +kernel
theorem dL_law_204 : decode cL_law 204 = .ok (.aload_n 0, 1) := by decide +kernel
theorem dL_law_205 : decode cL_law 205 = .ok (.iload_n 3, 1) := by decide +kernel
theorem dL_law_206 : decode cL_law 206 = .ok (.iconst 1, 1) := by decide +kernel
theorem dL_law_207 : decode cL_law 207 = .ok (.iadd, 1) := by decide +kernel
theorem dL_law_208 : decode cL_law 208 = .ok (.iaload, 1) := by decide +kernel
theorem dL_law_209 : decode cL_law 209 = .ok (.invokevirtual 34, 3) := by decide +kernel
theorem dL_law_212 : decode cL_law 212 = .ok (.aload_n 2, 1) := by decide +kernel
theorem dL_law_213 : decode cL_law 213 = .ok (.aload_n 0, 1) := by decide +kernel
theorem dL_law_214 : decode cL_law 214 = .ok (.iload_n 3, 1) := by decide +kernel
theorem dL_law_215 : decode cL_law 215 = .ok (.iconst 1, 1) := by decide +kernel
theorem dL_law_216 : decode cL_law 216 = .ok (.iadd, 1) := by decide +kernel
theorem dL_law_217 : decode cL_law 217 = .ok (.iaload, 1) := by decide +kernel
theorem dL_law_218 : decode cL_law 218 = .ok (.invokevirtual 37, 3) := by decide +kernel
theorem dL_law_221 : decode cL_law 221 = .ok (.if_icmp .eq 117, 3) := by decide +kernel
theorem dL_law_224 : decode cL_law 224 = .ok (.iconst 0, 1) := by decide +kernel
theorem dL_law_225 : decode cL_law 225 = .ok (.ireturn, 1) := by decide +kernel
theorem dL_law_226 : decode cL_law 226 = .ok (.aload_n 1, 1) := by decide +kernel
theorem dL_law_227 : decode cL_law 227 = .ok (.aload_n 0, 1) := by decide +kernel
theorem dL_law_228 : decode cL_law 228 = .ok (.iload_n 3, 1) := by decide +kernel
theorem dL_law_229 : decode cL_law 229 = .ok (.iconst 1, 1) := by decide +kernel
theorem dL_law_230 : decode cL_law 230 = .ok (.iadd, 1) := by decide +kernel
theorem dL_law_231 : decode cL_law 231 = .ok (.iaload, 1) := by decide +kernel
theorem dL_law_232 : decode cL_law 232 = .ok (.invokevirtual 38, 3) := by decide +kernel
theorem dL_law_235 : decode cL_law 235 = .ok (.aload_n 2, 1) := by decide +kernel
theorem dL_law_236 : decode cL_law 236 = .ok (.aload_n 0, 1) := by decide +kernel
theorem dL_law_237 : decode cL_law 237 = .ok (.iload_n 3, 1) := by decide +kernel
theorem dL_law_238 : decode cL_law 238 = .ok (.iconst 1, 1) := by decide +kernel
theorem dL_law_239 : decode cL_law 239 = .ok (.iadd, 1) := by decide +kernel
theorem dL_law_240 : decode cL_law 240 = .ok (.iaload, 1) := by decide +kernel
theorem dL_law_241 : decode cL_law 241 = .ok (.invokevirtual 41, 3) := by decide +kernel
theorem dL_law_244 : decode cL_law 244 = .ok (.if_icmp .eq 94, 3) := by decide +kernel
theorem dL_law_247 : decode cL_law 247 = .ok (.iconst 0, 1) := by decide +kernel
theorem dL_law_248 : decode cL_law 248 = .ok (.ireturn, 1) := by decide +kernel
theorem dL_law_249 : decode cL_law 249 = .ok (.aload_n 1, 1) := by decide +kernel
theorem dL_law_250 : decode cL_law 250 = .ok (.aload_n 0, 1) := by decide +kernel
theorem dL_law_251 : decode cL_law 251 = .ok (.iload_n 3, 1) := by decide +kernel
theorem dL_law_252 : decode cL_law 252 = .ok (.iconst 1, 1) := by decide +kernel
theorem dL_law_253 : decode cL_law 253 = .ok (.iadd, 1) := by decide +kernel
theorem dL_law_254 : decode cL_law 254 = .ok (.iaload, 1) := by decide +kernel
theorem dL_law_255 : decode cL_law 255 = .ok (.aload_n 0, 1) := by decide +kernel
theorem dL_law_256 : decode cL_law 256 = .ok (.iload_n 3, 1) := by decide +kernel
theorem dL_law_257 : decode cL_law 257 = .ok (.iconst 2, 1) := by decide +kernel
theorem dL_law_258 : decode cL_law 258 = .ok (.iadd, 1) := by decide +kernel
theorem dL_law_259 : decode cL_law 259 = .ok (.iaload, 1) := by decide +kernel
theorem dL_law_260 : decode cL_law 260 = .ok (.invokevirtual 42, 3) := by decide +kernel
theorem dL_law_263 : decode cL_law 263 = .ok (.aload_n 2, 1) := by decide +kernel
theorem dL_law_264 : decode cL_law 264 = .ok (.aload_n 0, 1) := by decide +kernel
theorem dL_law_265 : decode cL_law 265 = .ok (.iload_n 3, 1) := by decide +kernel
theorem dL_law_266 : decode cL_law 266 = .ok (.iconst 1, 1) := by decide +kernel
theorem dL_law_267 : decode cL_law 267 = .ok (.iadd, 1) := by decide +kernel
theorem dL_law_268 : decode cL_law 268 = .ok (.iaload, 1) := by decide +kernel
theorem dL_law_269 : decode cL_law 269 = .ok (.aload_n 0, 1) := by decide +kernel
theorem dL_law_270 : decode cL_law 270 = .ok (.iload_n 3, 1) := by decide +kernel
theorem dL_law_271 : decode cL_law 271 = .ok (.iconst 2, 1) := by decide +kernel
theorem dL_law_272 : decode cL_law 272 = .ok (.iadd, 1) := by decide +kernel
theorem dL_law_273 : decode cL_law 273 = .ok (.iaload, 1) := by decide +kernel
theorem dL_law_274 : decode cL_law 274 = .ok (.invokevirtual 46, 3) := by decide +kernel
theorem dL_law_277 : decode cL_law 277 = .ok (.if_icmp .eq 61, 3) := by decide +kernel
theorem dL_law_280 : decode cL_law 280 = .ok (.iconst 0, 1) := by decide +kernel
theorem dL_law_281 : decode cL_law 281 = .ok (.ireturn, 1) := by decide +kernel
theorem dL_law_282 : decode cL_law 282 = .ok (.aload_n 1, 1) := by decide +kernel
theorem dL_law_283 : decode cL_law 283 = .ok (.aload_n 0, 1) := by decide +kernel
theorem dL_law_284 : decode cL_law 284 = .ok (.iload_n 3, 1) := by decide +kernel
theorem dL_law_285 : decode cL_law 285 = .ok (.iconst 1, 1) := by decide +kernel
theorem dL_law_286 : decode cL_law 286 = .ok (.iadd, 1) := by decide +kernel
theorem dL_law_287 : decode cL_law 287 = .ok (.iaload, 1) := by decide +kernel
theorem dL_law_288 : decode cL_law 288 = .ok (.invokevirtual 47, 3) := by decide +kernel
theorem dL_law_291 : decode cL_law 291 = .ok (.aload_n 2, 1) := by decide +kernel
theorem dL_law_292 : decode cL_law 292 = .ok (.aload_n 0, 1) := by decide +kernel
theorem dL_law_293 : decode cL_law 293 = .ok (.iload_n 3, 1) := by decide +kernel
theorem dL_law_294 : decode cL_law 294 = .ok (.iconst 1, 1) := by decide +kernel
theorem dL_law_295 : decode cL_law 295 = .ok (.iadd, 1) := by decide +kernel
theorem dL_law_296 : decode cL_law 296 = .ok (.iaload, 1) := by decide +kernel
theorem dL_law_297 : decode cL_law 297 = .ok (.invokevirtual 50, 3) := by decide +kernel
theorem dL_law_300 : decode cL_law 300 = .ok (.if_icmp .eq 38, 3) := by decide +kernel
theorem dL_law_303 : decode cL_law 303 = .ok (.iconst 0, 1) := by decide +kernel
theorem dL_law_304 : decode cL_law 304 = .ok (.ireturn, 1) := by decide +kernel
theorem dL_law_305 : decode cL_law 305 = .ok (.aload_n 1, 1) := by decide +kernel
theorem dL_law_306 : decode cL_law 306 = .ok (.aload_n 0, 1) := by decide +kernel
theorem dL_law_307 : decode cL_law 307 = .ok (.iload_n 3, 1) := by decide +kernel
theorem dL_law_308 : decode cL_law 308 = .ok (.iconst 1, 1) := by decide +kernel
theorem dL_law_309 : decode cL_law 309 = .ok (.iadd, 1) := by decide +kernel
theorem dL_law_310 : decode cL_law 310 = .ok (.iaload, 1) := by decide +kernel
theorem dL_law_311 : decode cL_law 311 = .ok (.aload_n 0, 1) := by decide +kernel
theorem dL_law_312 : decode cL_law 312 = .ok (.iload_n 3, 1) := by decide +kernel
theorem dL_law_313 : decode cL_law 313 = .ok (.iconst 2, 1) := by decide +kernel
theorem dL_law_314 : decode cL_law 314 = .ok (.iadd, 1) := by decide +kernel
theorem dL_law_315 : decode cL_law 315 = .ok (.iaload, 1) := by decide +kernel
theorem dL_law_316 : decode cL_law 316 = .ok (.invokevirtual 51, 3) := by decide +kernel
theorem dL_law_319 : decode cL_law 319 = .ok (.aload_n 2, 1) := by decide +kernel
theorem dL_law_320 : decode cL_law 320 = .ok (.aload_n 0, 1) := by decide +kernel
theorem dL_law_321 : decode cL_law 321 = .ok (.iload_n 3, 1) := by decide +kernel
theorem dL_law_322 : decode cL_law 322 = .ok (.iconst 1, 1) := by decide +kernel
theorem dL_law_323 : decode cL_law 323 = .ok (.iadd, 1) := by decide +kernel
theorem dL_law_324 : decode cL_law 324 = .ok (.iaload, 1) := by decide +kernel
theorem dL_law_325 : decode cL_law 325 = .ok (.aload_n 0, 1) := by decide +kernel
theorem dL_law_326 : decode cL_law 326 = .ok (.iload_n 3, 1) := by decide +kernel
theorem dL_law_327 : decode cL_law 327 = .ok (.iconst 2, 1) := by decide +kernel
theorem dL_law_328 : decode cL_law 328 = .ok (.iadd, 1) := by decide +kernel
theorem dL_law_329 : decode cL_law 329 = .ok (.iaload, 1) := by decide +kernel
theorem dL_law_330 : decode cL_law 330 = .ok (.invokevirtual 54, 3) := by decide +kernel
theorem dL_law_333 : decode cL_law 333 = .ok (.if_icmp .eq 5, 3) := by decide +kernel
theorem dL_law_336 : decode cL_law 336 = .ok (.iconst 0, 1) := by decide +kernel
theorem dL_law_337 : decode cL_law 337 = .ok (.ireturn, 1) := by decide +kernel
theorem dL_law_338 : decode cL_law 338 = .ok (.iinc 3 3, 3) := by decide +kernel
theorem dL_law_341 : decode cL_law 341 = .ok (.goto (-323), 3) := by decide +kernel
theorem dL_law_344 : decode cL_law 344 = .ok (.iconst 1, 1) := by decide +kernel
theorem dL_law_345 : decode cL_law 345 = .ok (.ireturn, 1) := by decide +kernel
end
section
/-! PURE 1: counts (pasted family of COUNTS.to-paste), bits of words -/
def fb_ct (p : Nat → Bool) : Nat → Nat
  | 0 => 0
  | n + 1 => fb_ct p n + (if p n then 1 else 0)
theorem fb_ct_succ (p : Nat → Bool) (n : Nat) : fb_ct p (n + 1) = fb_ct p n + (if p n then 1 else 0) := rfl
theorem fb_ct_le (p : Nat → Bool) : ∀ n, fb_ct p n ≤ n
  | 0 => Nat.le_refl _
  | n + 1 => by
    have h := fb_ct_le p n
    rw [fb_ct_succ]
    split <;> omega
theorem fb_ct_step (p : Nat → Bool) (m : Nat) : ∀ n, fb_ct p m ≤ fb_ct p (m + n)
  | 0 => Nat.le_refl _
  | n + 1 => by
    have h := fb_ct_step p m n
    show fb_ct p m ≤ fb_ct p (m + n + 1)
    rw [fb_ct_succ]
    omega
theorem fb_ct_mono (p : Nat → Bool) {m n : Nat} (h : m ≤ n) : fb_ct p m ≤ fb_ct p n := by
  have := fb_ct_step p m (n - m)
  rwa [Nat.add_sub_cancel' h] at this
theorem fb_ct_cong {p q : Nat → Bool} : ∀ {n : Nat}, (∀ k, k < n → p k = q k) → fb_ct p n = fb_ct q n
  | 0, _ => rfl
  | n + 1, h => by
    rw [fb_ct_succ, fb_ct_succ, fb_ct_cong (fun k hk => h k (by omega)), h n (by omega)]
/-- one place changed -/
theorem fb_ct_out (p : Nat → Bool) (b : Bool) {i n : Nat} (h : n ≤ i) : fb_ct (fun k => if k = i then b else p k) n = fb_ct p n :=
  fb_ct_cong fun k hk => if_neg (by omega)
theorem fb_ct_upd (p : Nat → Bool) (b : Bool) {i : Nat} : ∀ {n : Nat}, i < n → fb_ct (fun k => if k = i then b else p k) n + (if p i then 1 else 0) = fb_ct p n + (if b then 1 else 0)
  | 0, h => absurd h (Nat.not_lt_zero i)
  | n + 1, h => by
    rw [fb_ct_succ, fb_ct_succ]
    rcases Nat.lt_or_ge i n with q | q
    · have := fb_ct_upd p b q
      have e : (if n = i then b else p n) = p n := if_neg (by omega)
      rw [e]
      omega
    · have e : i = n := by omega
      subst e
      rw [fb_ct_out p b (Nat.le_refl _)]
      simp only [if_true]
      omega
theorem fb_ct_sub {p q : Nat → Bool} : ∀ {n : Nat}, (∀ k, k < n → p k = true → q k = true) → fb_ct p n ≤ fb_ct q n
  | 0, _ => Nat.le_refl _
  | n + 1, h => by
    have h1 := fb_ct_sub (n := n) (p := p) (q := q) (fun k hk => h k (by omega))
    have h2 := h n (by omega)
    rw [fb_ct_succ, fb_ct_succ]
    cases hp : p n <;> cases hq : q n <;> simp_all <;> omega
theorem fb_ct_or {p q : Nat → Bool} : ∀ {n : Nat}, (∀ k, k < n → ¬ (p k = true ∧ q k = true)) → fb_ct (fun k => p k || q k) n = fb_ct p n + fb_ct q n
  | 0, _ => rfl
  | n + 1, h => by
    have h1 := fb_ct_or (n := n) (p := p) (q := q) (fun k hk => h k (by omega))
    have h2 := h n (by omega)
    rw [fb_ct_succ, fb_ct_succ, fb_ct_succ, h1]
    cases hp : p n <;> cases hq : q n <;> simp_all <;> omega
theorem fb_ct_not (p : Nat → Bool) : ∀ n, fb_ct p n + fb_ct (fun k => !p k) n = n
  | 0 => rfl
  | n + 1 => by
    have h := fb_ct_not p n
    rw [fb_ct_succ, fb_ct_succ]
    cases p n <;> simp <;> omega
theorem fb_ct_split (p : Nat → Bool) (m : Nat) : ∀ n, fb_ct p (m + n) = fb_ct p m + fb_ct (fun k => p (m + k)) n
  | 0 => rfl
  | n + 1 => by
    have h := fb_ct_split p m n
    show fb_ct p (m + n + 1) = _
    rw [fb_ct_succ, fb_ct_succ, h, Nat.add_assoc]
theorem fb_ct_zero {p : Nat → Bool} : ∀ {n : Nat}, fb_ct p n = 0 ↔ ∀ k, k < n → p k = false
  | 0 => ⟨fun _ k hk => absurd hk (Nat.not_lt_zero k), fun _ => rfl⟩
  | n + 1 => by
    have h := fb_ct_zero (p := p) (n := n)
    rw [fb_ct_succ]
    constructor
    · intro e k hk
      have e1 : fb_ct p n = 0 := by omega
      rcases Nat.lt_or_ge k n with q | q
      · exact h.mp e1 k q
      · have ek : k = n := by omega
        subst ek
        cases hp : p k
        · rfl
        · simp [hp] at e
    · intro a
      rw [h.mpr (fun k hk => a k (by omega)), a n (by omega)]
      rfl
theorem fb_ct_pos {p : Nat → Bool} {n : Nat} : 0 < fb_ct p n ↔ ∃ k, k < n ∧ p k = true := by
  constructor
  · intro h
    refine Classical.byContradiction fun hx => ?_
    have := fb_ct_zero.mpr (fun k hk => by
      cases hp : p k
      · rfl
      · exact absurd ⟨k, hk, hp⟩ hx : ∀ k, k < n → p k = false)
    omega
  · rintro ⟨k, hk, hp⟩
    rcases Nat.eq_zero_or_pos (fb_ct p n) with e | e
    · have := fb_ct_zero.mp e k hk
      rw [this] at hp
      cases hp
    · exact e
theorem fb_ct_all {p : Nat → Bool} {n : Nat} : fb_ct p n = n ↔ ∀ k, k < n → p k = true := by
  have h := fb_ct_not p n
  constructor
  · intro e k hk
    have z : fb_ct (fun k => !p k) n = 0 := by omega
    have := fb_ct_zero.mp z k hk
    cases hp : p k
    · simp [hp] at this
    · rfl
  · intro a
    have z : fb_ct (fun k => !p k) n = 0 := fb_ct_zero.mpr (fun k hk => by simp [a k hk])
    omega
/-! ===== Int32 by number: and, one bit ===== -/
theorem is_su : ∀ n, n < 32 → (((nI n).toUInt32 &&& Int32.toUInt32 31).toBitVec % 32).toNat = n := by decide +kernel
theorem is_sl : ∀ n, n < 32 → ((nI n &&& 31).toBitVec.smod 32).toNat = n := by decide +kernel
theorem is_and (a b : Nat) : nI a &&& nI b = nI (a &&& b) := by
  apply Int32.toBitVec_inj.1
  show BitVec.ofNat 32 a &&& BitVec.ofNat 32 b = BitVec.ofNat 32 (a &&& b)
  apply BitVec.eq_of_getLsbD_eq
  intro i hi
  simp [hi]
theorem is_or (a b : Nat) : nI a ||| nI b = nI (a ||| b) := by
  apply Int32.toBitVec_inj.1
  show BitVec.ofNat 32 a ||| BitVec.ofNat 32 b = BitVec.ofNat 32 (a ||| b)
  apply BitVec.eq_of_getLsbD_eq
  intro i hi
  simp [hi]
theorem is_of32 (x : Int32) : ∃ n, n < 2 ^ 32 ∧ x = nI n := ⟨x.toBitVec.toNat, x.toBitVec.isLt, Int32.toBitVec_inj.mp (by show _ = BitVec.ofNat 32 _; simp)⟩
/-- one bit of a number, as 0 or 1 -/
def is_b1 (v g : Nat) : Nat := v / 2 ^ g % 2
theorem is_b1_lt (v g : Nat) : is_b1 v g < 2 := Nat.mod_lt _ (by decide)
theorem is_b1_tb (v g : Nat) : v.testBit g = decide (is_b1 v g = 1) := Nat.testBit_eq_decide_div_mod_eq
theorem is_b1_0 {v g : Nat} : is_b1 v g = 0 ↔ v.testBit g = false := by
  rw [is_b1_tb, decide_eq_false_iff_not]; have := is_b1_lt v g; omega
theorem is_ush {v g : Nat} (hv : v < 2 ^ 32) (hg : g < 32) : (((nI v).toUInt32 >>> ((nI g).toUInt32 &&& Int32.toUInt32 31)).toInt32) = nI (v / 2 ^ g) := pk_ushrN hv (nI g) g (is_su g hg)
theorem is_a1 (m : Nat) : nI m &&& nI 1 = nI (m % 2) := by rw [is_and, Nat.and_one_is_mod]
theorem is_ibit {v g : Nat} (hv : v < 2 ^ 32) (hg : g < 32) : (((nI v).toUInt32 >>> ((nI g).toUInt32 &&& Int32.toUInt32 31)).toInt32 &&& nI 1) = nI (is_b1 v g) := by rw [is_ush hv hg, is_a1]; rfl
theorem is_255 {v : Nat} (hv : v < 2 ^ 32) : nI v &&& nI 255 = nI (v % 256) := pk_andN hv 8 (by decide)
/-! ===== words of baskets, by their bits ===== -/
def is_lb (w : Int64) (k : Nat) : Bool := w.toBitVec.getLsbD k
theorem is_lb_or (x y : Int64) (k : Nat) : is_lb (x ||| y) k = (is_lb x k || is_lb y k) := by unfold is_lb; rw [Int64.toBitVec_or, BitVec.getLsbD_or]
theorem is_lb_and (x y : Int64) (k : Nat) : is_lb (x &&& y) k = (is_lb x k && is_lb y k) := by unfold is_lb; rw [Int64.toBitVec_and, BitVec.getLsbD_and]
theorem is_lb_0 (k : Nat) : is_lb 0 k = false := BitVec.getLsbD_zero
theorem is_lb_big {w : Int64} {k : Nat} (h : 64 ≤ k) : is_lb w k = false := BitVec.getLsbD_of_ge _ _ h
theorem is_lb_not (x : Int64) {k : Nat} (hk : k < 64) : is_lb (x ^^^ (-1)) k = !is_lb x k := by
  have ha : (-1 : Int64).toBitVec = BitVec.allOnes 64 := by decide
  unfold is_lb
  rw [Int64.toBitVec_xor, BitVec.getLsbD_xor, ha, BitVec.getLsbD_allOnes]
  simp [hk]
theorem is_lb_ext {x y : Int64} (h : ∀ k, k < 64 → is_lb x k = is_lb y k) : x = y := Int64.toBitVec_inj.mp (BitVec.eq_of_getLsbD_eq (fun i hi => h i hi))
theorem is_lb_eq0 (w : Int64) : w = 0 ↔ ∀ k, k < 64 → is_lb w k = false :=
  ⟨fun h k _ => by rw [h]; exact is_lb_0 k, fun h => is_lb_ext (fun k hk => by rw [h k hk, is_lb_0])⟩
theorem is_lb_one : ∀ k, k < 64 → ((1 : Int64) <<< ((nI k).toInt64 &&& 63)).toBitVec = BitVec.twoPow 64 k := by decide +kernel
theorem is_lb_shl {k : Nat} (hk : k < 64) (j : Nat) : is_lb ((1 : Int64) <<< ((nI k).toInt64 &&& 63)) j = decide (k = j) := by
  unfold is_lb
  rw [is_lb_one k hk, BitVec.getLsbD_twoPow]
  simp [hk]
theorem is_lb_N {n : Nat} {k : Nat} (hk : k < 64) : is_lb (lN n) k = n.testBit k := by
  show (BitVec.ofNat 64 n).getLsbD k = _
  rw [BitVec.getLsbD_ofNat]
  simp [hk]
theorem is_cu : ∀ k, k < 64 → ((nI k).toInt64.toUInt64 &&& Int64.toUInt64 63) = UInt64.ofNat k := by decide +kernel
/-- (int) (word >>> k) & 1 -/
theorem is_lbit (w : Int64) {k : Nat} (hk : k < 64) : ((w.toUInt64 >>> ((nI k).toInt64.toUInt64 &&& Int64.toUInt64 63)).toInt64).toInt32 &&& nI 1 = nI (if is_lb w k then 1 else 0) := by
  obtain ⟨n, hn, rfl⟩ : ∃ n, n < 2 ^ 64 ∧ w = lN n := ⟨w.toBitVec.toNat, w.toBitVec.isLt, Int64.toBitVec_inj.mp (by show _ = BitVec.ofNat 64 _; simp)⟩
  have e : ((lN n).toUInt64 >>> ((nI k).toInt64.toUInt64 &&& Int64.toUInt64 63)).toInt64 = lN (n / 2 ^ k) := by
    rw [is_cu k hk]
    apply Int64.toBitVec_inj.mp
    apply BitVec.eq_of_toNat_eq
    show ((lN n).toUInt64 >>> UInt64.ofNat k).toNat = (BitVec.ofNat 64 _).toNat
    have h1 : (UInt64.ofNat k).toNat = k := by
      show (BitVec.ofNat 64 k).toNat = k
      rw [BitVec.toNat_ofNat, Nat.mod_eq_of_lt (by omega)]
    have h2 : (lN n).toUInt64.toNat = n := by
      show (BitVec.ofNat 64 n).toNat = n
      rw [BitVec.toNat_ofNat, Nat.mod_eq_of_lt hn]
    rw [UInt64.toNat_shiftRight, h1, h2, Nat.mod_eq_of_lt hk, Nat.shiftRight_eq_div_pow, BitVec.toNat_ofNat, Nat.mod_eq_of_lt (Nat.lt_of_le_of_lt (Nat.div_le_self _ _) hn)]
  rw [e, lN_i, is_a1, is_lb_N hk, is_b1_tb]
  have := is_b1_lt n k
  show nI (is_b1 n k) = _
  rcases (show is_b1 n k = 0 ∨ is_b1 n k = 1 by omega) with h | h <;> simp [h]
/-! ===== sets of goods, baskets that lack ===== -/
def is_sup (b : Nat → Nat) (n s : Nat) : Nat := fb_ct (fun k => decide (b k &&& s = s)) n
def is_ls (b : Nat → Nat) (n s k : Nat) : Bool := decide (k < n) && !decide (b k &&& s = s)
def is_lack (b : Nat → Nat) (n g k : Nat) : Bool := decide (k < n) && !(b k).testBit g
theorem is_ct_lim (p : Nat → Bool) {n : Nat} : ∀ {N : Nat}, n ≤ N → fb_ct (fun k => decide (k < n) && p k) N = fb_ct p n
  | 0, h => by rw [Nat.le_zero.mp h]; rfl
  | N + 1, h => by
    rcases Nat.lt_or_ge N n with q | q
    · have e : n = N + 1 := by omega
      subst e
      exact fb_ct_cong fun k hk => by simp [hk]
    · rw [fb_ct_succ, is_ct_lim p q]
      simp [Nat.not_lt.mpr q]
theorem is_ls_ct (b : Nat → Nat) {n : Nat} (s : Nat) (hn : n ≤ 40) : fb_ct (is_ls b n s) 40 + is_sup b n s = n := by
  have h := fb_ct_not (fun k => decide (b k &&& s = s)) n
  have h2 : fb_ct (is_ls b n s) 40 = fb_ct (fun k => !decide (b k &&& s = s)) n := is_ct_lim (fun k => !decide (b k &&& s = s)) hn
  unfold is_sup
  omega
theorem is_sup_le (b : Nat → Nat) (n s : Nat) : is_sup b n s ≤ n := fb_ct_le _ _
/-- n minus the lost ones is the support -/
theorem is_left (b : Nat → Nat) {n : Nat} (s : Nat) (hn : n ≤ 40) : nI n - nI (fb_ct (is_ls b n s) 40) = nI (is_sup b n s) := by
  have h := is_ls_ct b s hn
  rw [pk_sub (by omega)]
  congr 1
  omega
theorem is_sub_iff {s : Nat} (hs : s < 256) (x : Nat) : x &&& s = s ↔ ∀ g, g < 8 → s.testBit g = true → x.testBit g = true := by
  constructor
  · intro h g _ hg
    have := congrArg (fun z => z.testBit g) h
    simp only [Nat.testBit_and, hg, Bool.and_true] at this
    exact this
  · intro h
    apply Nat.eq_of_testBit_eq
    intro g
    rw [Nat.testBit_and]
    rcases Nat.lt_or_ge g 8 with q | q
    · cases e : s.testBit g
      · simp
      · simp [h g q e]
    · have : s.testBit g = false := Nat.testBit_lt_two_pow (Nat.lt_of_lt_of_le hs (Nat.pow_le_pow_right (by decide) q : 2 ^ 8 ≤ 2 ^ g))
      simp [this]
/-- the loop of lostBy, as a recursion -/
def is_any (b : Nat → Nat) (n s : Nat) : Nat → Nat → Bool
  | 0, _ => false
  | g + 1, k => is_any b n s g k || (s.testBit g && is_lack b n g k)
theorem is_any_iff (b : Nat → Nat) (n s k : Nat) : ∀ m, is_any b n s m k = true ↔ ∃ g, g < m ∧ s.testBit g = true ∧ is_lack b n g k = true
  | 0 => ⟨(fun h => by cases h), fun ⟨g, h, _⟩ => absurd h (Nat.not_lt_zero g)⟩
  | m + 1 => by
    have ih := is_any_iff b n s k m
    show (is_any b n s m k || (s.testBit m && is_lack b n m k)) = true ↔ _
    rw [Bool.or_eq_true, Bool.and_eq_true, ih]
    constructor
    · rintro (⟨g, h1, h2⟩ | h)
      · exact ⟨g, by omega, h2⟩
      · exact ⟨m, by omega, h⟩
    · rintro ⟨g, h1, h2⟩
      rcases Nat.lt_or_ge g m with q | q
      · exact Or.inl ⟨g, q, h2⟩
      · have : g = m := by omega
        subst this
        exact Or.inr h2
theorem is_ls_iff (b : Nat → Nat) (n k : Nat) {s : Nat} (hs : s < 256) : is_ls b n s k = true ↔ k < n ∧ ∃ g, g < 8 ∧ s.testBit g = true ∧ (b k).testBit g = false := by
  unfold is_ls
  rw [Bool.and_eq_true, decide_eq_true_iff, Bool.not_eq_true', decide_eq_false_iff_not, is_sub_iff hs]
  constructor
  · rintro ⟨h1, h2⟩
    refine ⟨h1, Classical.byContradiction fun hx => h2 fun g hg hsg => ?_⟩
    cases e : (b k).testBit g
    · exact absurd ⟨g, hg, hsg, e⟩ hx
    · rfl
  · rintro ⟨h1, g, hg, hsg, e⟩
    exact ⟨h1, fun h => by rw [h g hg hsg] at e; cases e⟩
theorem is_lack_iff (b : Nat → Nat) (n g k : Nat) : is_lack b n g k = true ↔ k < n ∧ (b k).testBit g = false := by
  unfold is_lack
  rw [Bool.and_eq_true, decide_eq_true_iff, Bool.not_eq_true']
theorem is_any_8 (b : Nat → Nat) (n k : Nat) {s : Nat} (hs : s < 256) : is_any b n s 8 k = is_ls b n s k := by
  rw [Bool.eq_iff_iff, is_any_iff, is_ls_iff b n k hs]
  constructor
  · rintro ⟨g, h1, h2, h3⟩
    rw [is_lack_iff] at h3
    exact ⟨h3.1, g, h1, h2, h3.2⟩
  · rintro ⟨h0, g, h1, h2, h3⟩
    exact ⟨g, h1, h2, (is_lack_iff b n g k).mpr ⟨h0, h3⟩⟩
theorem is_tb_mod {v g : Nat} (hg : g < 8) : (v % 256).testBit g = v.testBit g := by
  rw [show 256 = 2 ^ 8 from rfl, Nat.testBit_mod_two_pow]
  simp [hg]
/-- one more good -/
theorem is_addg : ∀ S, S < 256 → ∀ g, g < 8 → S.testBit g = false → S + 2 ^ g = S ||| 2 ^ g ∧ S + 2 ^ g < 256 := by decide +kernel
theorem is_ls_add (b : Nat → Nat) (n k : Nat) {S g : Nat} (hS : S < 256) (hg : g < 8) (h : S.testBit g = false) : is_ls b n (S + 2 ^ g) k = (is_ls b n S k || is_lack b n g k) := by
  obtain ⟨e, hlt⟩ := is_addg S hS g hg h
  rw [Bool.eq_iff_iff, Bool.or_eq_true, is_ls_iff b n k hlt, is_ls_iff b n k hS, is_lack_iff, e]
  constructor
  · rintro ⟨h1, j, hj, hb, hn⟩
    rw [Nat.testBit_or, Nat.testBit_two_pow, Bool.or_eq_true, decide_eq_true_iff] at hb
    rcases hb with hb | hb
    · exact Or.inl ⟨h1, j, hj, hb, hn⟩
    · subst hb
      exact Or.inr ⟨h1, hn⟩
  · rintro (⟨h1, j, hj, hb, hn⟩ | ⟨h1, hn⟩)
    · exact ⟨h1, j, hj, by rw [Nat.testBit_or, hb, Bool.true_or], hn⟩
    · exact ⟨h1, g, hg, by rw [Nat.testBit_or, Nat.testBit_two_pow]; simp, hn⟩
/-- more goods, fewer baskets -/
theorem is_sup_anti (b : Nat → Nat) (n : Nat) {s t : Nat} (h : t &&& s = s) : is_sup b n t ≤ is_sup b n s := by
  refine fb_ct_sub fun k _ hk => ?_
  rw [decide_eq_true_iff] at hk ⊢
  rw [← h, ← Nat.and_assoc, hk]
end
section
/-! PURE 2: growing sets, folds -/
set_option maxRecDepth 100000
/-- the way down to depth d: the goods above depth d are S; what was chosen and lost on it -/
def is_GI (b : Nat → Nat) (n S d : Nat) (fo : Nat → Int64) (fc : Nat → Int32) : Prop :=
  S < 256 ∧ d ≤ 8 ∧ S % 2 ^ (8 - d) = 0 ∧ (∀ i, i < d → fc i = nI (S / 2 ^ (7 - i) % 2)) ∧ ∀ i, i < d + 1 → ∀ k, is_lb (fo i) k = is_ls b n (S / 2 ^ (8 - i) * 2 ^ (8 - i)) k
theorem is_f1a : ∀ d, d < 8 → ∀ S, S < 256 → S % 2 ^ (8 - d) = 0 → S.testBit (7 - d) = false := by decide +kernel
theorem is_f1b : ∀ d, d < 8 → ∀ S, S < 256 → S % 2 ^ (8 - d) = 0 → ∀ c, c < 2 → S + c * 2 ^ (7 - d) < 256 ∧ (S + c * 2 ^ (7 - d)) % 2 ^ (7 - d) = 0 := by decide +kernel
theorem is_f1c : ∀ d, d < 8 → ∀ S, S < 256 → S % 2 ^ (8 - d) = 0 → ∀ c, c < 2 → (S + c * 2 ^ (7 - d)) / 2 ^ (7 - d) % 2 = c ∧ (S + c * 2 ^ (7 - d)) / 2 ^ (7 - d) * 2 ^ (7 - d) = S + c * 2 ^ (7 - d) := by decide +kernel
theorem is_f2 : ∀ d, d < 8 → ∀ S, S < 256 → S % 2 ^ (8 - d) = 0 → ∀ c, c < 2 → ∀ i, i < d → (S + c * 2 ^ (7 - d)) / 2 ^ (7 - i) % 2 = S / 2 ^ (7 - i) % 2 := by decide +kernel
theorem is_f3 : ∀ d, d < 8 → ∀ S, S < 256 → S % 2 ^ (8 - d) = 0 → ∀ c, c < 2 → ∀ i, i < d + 1 → (S + c * 2 ^ (7 - d)) / 2 ^ (8 - i) * 2 ^ (8 - i) = S / 2 ^ (8 - i) * 2 ^ (8 - i) := by decide +kernel
theorem is_f4 : ∀ d, d < 8 → ∀ S, S < 256 → S % 2 ^ (7 - d) = 0 → S / 2 ^ (8 - d) * 2 ^ (8 - d) < 256 ∧ S / 2 ^ (8 - d) * 2 ^ (8 - d) % 2 ^ (8 - d) = 0 ∧ S = S / 2 ^ (8 - d) * 2 ^ (8 - d) + S / 2 ^ (7 - d) % 2 * 2 ^ (7 - d) := by decide +kernel
theorem is_f5 : ∀ d, d < 8 → ∀ S, S < 256 → S % 2 ^ (7 - d) = 0 → ∀ i, i < d → S / 2 ^ (8 - d) * 2 ^ (8 - d) / 2 ^ (7 - i) % 2 = S / 2 ^ (7 - i) % 2 := by decide +kernel
theorem is_f6 : ∀ d, d < 8 → ∀ S, S < 256 → S % 2 ^ (7 - d) = 0 → ∀ i, i < d + 1 → S / 2 ^ (8 - d) * 2 ^ (8 - d) / 2 ^ (8 - i) * 2 ^ (8 - i) = S / 2 ^ (8 - i) * 2 ^ (8 - i) := by decide +kernel
/-- set &= ~(1 << g), set |= choice << g -/
theorem is_f7 : ∀ d, d < 8 → ∀ S, S < 256 → S % 2 ^ (8 - d) = 0 → nI S &&& ((nI 1 <<< (nI (7 - d) &&& 31)) ^^^ (-1)) = nI S ∧ nI (S + 2 ^ (7 - d)) &&& ((nI 1 <<< (nI (7 - d) &&& 31)) ^^^ (-1)) = nI S := by decide +kernel
theorem is_f8 : ∀ d, d < 8 → ∀ S, S < 256 → S % 2 ^ (8 - d) = 0 → ∀ c, c < 2 → nI S ||| (nI c <<< (nI (7 - d) &&& 31)) = nI (S + c * 2 ^ (7 - d)) := by decide +kernel
/-- all sets of a block hold its first -/
theorem is_blk : ∀ e, e < 9 → ∀ T, T < 256 → T % 2 ^ e = 0 → ∀ r, r < 2 ^ e → (T + r) &&& T = T := by decide +kernel
def is_pc (s : Nat) : Nat := fb_ct s.testBit 8
theorem is_pc_le (s : Nat) : is_pc s ≤ 8 := fb_ct_le _ _
/-- steps that are left -/
def is_mu (S d c : Nat) : Nat := 4 * (256 - (S + c * 2 ^ (7 - d))) + 2 * (c + is_pc S) + (16 - d)
theorem is_m1 : ∀ d, d < 7 → ∀ S, S < 256 → S % 2 ^ (7 - d) = 0 → is_mu (S / 2 ^ (8 - d) * 2 ^ (8 - d)) d (S / 2 ^ (7 - d) % 2 + 1) < is_mu S (d + 1) 2 := by decide +kernel
theorem is_m2 : ∀ d, d < 8 → ∀ S, S < 256 → S % 2 ^ (8 - d) = 0 → ∀ c, c < 2 → is_mu (S + c * 2 ^ (7 - d)) (d + 1) 0 < is_mu S d c := by decide +kernel
theorem is_m3 : ∀ d, d < 8 → ∀ S, S < 256 → S % 2 ^ (8 - d) = 0 → ∀ c, c < 2 → is_mu S d (c + 1) < is_mu S d c := by decide +kernel
theorem is_m4 : ∀ S, S < 256 → is_mu (S / 2 * 2) 7 (S % 2 + 1) < is_mu S 8 0 := by decide +kernel
theorem is_mu_le {S d c : Nat} (hc : c ≤ 2) : is_mu S d c ≤ 1060 := by
  have := is_pc_le S
  unfold is_mu
  omega
/-- position: all sets below it are done -/
theorem is_p1 : ∀ d, d < 7 → ∀ S, S < 256 → S % 2 ^ (7 - d) = 0 → S / 2 ^ (8 - d) * 2 ^ (8 - d) + (S / 2 ^ (7 - d) % 2 + 1) * 2 ^ (7 - d) = S + 2 * 2 ^ (6 - d) := by decide +kernel
theorem is_p4 : ∀ S, S < 256 → S / 2 * 2 + (S % 2 + 1) * 2 ^ (7 - 7) = S + 1 := by decide +kernel
theorem is_p3 (S d c : Nat) : S + (c + 1) * 2 ^ (7 - d) = S + c * 2 ^ (7 - d) + 2 ^ (7 - d) := by rw [Nat.add_mul, Nat.one_mul, Nat.add_assoc]
/-! often sets -/
def is_of (b : Nat → Nat) (n : Nat) (m : Int32) (s : Nat) : Bool := decide (nI 1 ≤ m) && (decide (s ≠ 0) && decide (m ≤ nI (is_sup b n s)))
theorem is_of_iff {b : Nat → Nat} {n : Nat} {m : Int32} {s : Nat} : is_of b n m s = true ↔ nI 1 ≤ m ∧ s ≠ 0 ∧ m ≤ nI (is_sup b n s) := by
  unfold is_of
  rw [Bool.and_eq_true, Bool.and_eq_true, decide_eq_true_iff, decide_eq_true_iff, decide_eq_true_iff]
theorem is_of_f {b : Nat → Nat} {n : Nat} {m : Int32} {s : Nat} (h : ¬ (nI 1 ≤ m ∧ s ≠ 0 ∧ m ≤ nI (is_sup b n s))) : is_of b n m s = false := by
  cases e : is_of b n m s
  · rfl
  · exact absurd (is_of_iff.mp e) h
theorem is_of_0 {b : Nat → Nat} {n : Nat} {m : Int32} : is_of b n m 0 = false := is_of_f fun h => h.2.1 rfl
theorem is_le_tr {m : Int32} {a c : Nat} (h : m ≤ nI a) (hac : a ≤ c) (hc : c < 2 ^ 31) : m ≤ nI c := by
  rw [Int32.le_iff_toInt_le, nI_toInt (by omega)] at *
  omega
theorem is_of_anti {b : Nat → Nat} {n : Nat} {m : Int32} {s t : Nat} (hn : n ≤ 40) (h : t &&& s = s) (hs : ¬ m ≤ nI (is_sup b n s)) : is_of b n m t = false :=
  is_of_f fun q => hs (is_le_tr q.2.2 (is_sup_anti b n h) (by have := is_sup_le b n s; omega))
/-- a block is passed over -/
theorem is_skip {b : Nat → Nat} {n : Nat} {m : Int32} {T e : Nat} (hn : n ≤ 40) (he : e < 9) (hT : T < 256) (hm : T % 2 ^ e = 0) (hs : ¬ m ≤ nI (is_sup b n T)) : ∀ s, T ≤ s → s < T + 2 ^ e → is_of b n m s = false := by
  intro s h1 h2
  obtain ⟨r, rfl⟩ : ∃ r, s = T + r := ⟨s - T, by omega⟩
  exact is_of_anti hn (is_blk e he T hT hm r (by omega)) hs
/-! the way down, step by step -/
theorem is_GI_0 {b : Nat → Nat} {n : Nat} {fo : Nat → Int64} {fc : Nat → Int32} (h : fo 0 = 0) : is_GI b n 0 0 fo fc := by
  refine ⟨by decide, by decide, by decide, fun i hi => absurd hi (Nat.not_lt_zero i), fun i hi k => ?_⟩
  have : i = 0 := by omega
  subst this
  rw [h, is_lb_0]
  unfold is_ls
  simp
theorem is_GI_fwd {b : Nat → Nat} {n S d c : Nat} {fo : Nat → Int64} {fc : Nat → Int32} {w : Int64} {x : Int32} (h : is_GI b n S d fo fc) (hd : d < 8) (hc : c < 2) (hw : ∀ k, is_lb w k = is_ls b n (S + c * 2 ^ (7 - d)) k) :
    is_GI b n (S + c * 2 ^ (7 - d)) (d + 1) (vp_updL fo (d + 1) w) (upd (upd fc d (nI c)) (d + 1) x) := by
  obtain ⟨h1, h2, h3, h4, h5⟩ := h
  obtain ⟨q1, q2⟩ := is_f1b d hd S h1 h3 c hc
  obtain ⟨q3, q4⟩ := is_f1c d hd S h1 h3 c hc
  have e7 : 8 - (d + 1) = 7 - d := by omega
  refine ⟨q1, by omega, by rw [e7]; exact q2, fun i hi => ?_, fun i hi k => ?_⟩
  · rw [pk_un (by omega)]
    rcases Nat.lt_or_ge i d with z | z
    · rw [pk_un (by omega), h4 i z, is_f2 d hd S h1 h3 c hc i z]
    · have : i = d := by omega
      subst this
      rw [pk_us, q3]
  · rcases Nat.lt_or_ge i (d + 1) with z | z
    · rw [pk_uLn (by omega), h5 i z, is_f3 d hd S h1 h3 c hc i z]
    · have : i = d + 1 := by omega
      subst this
      rw [pk_uLs, hw, e7, q4]
/-- another choice at this depth keeps the way down to it -/
theorem is_GI_upd {b : Nat → Nat} {n S d : Nat} {fo : Nat → Int64} {fc : Nat → Int32} {x : Int32} (h : is_GI b n S d fo fc) : is_GI b n S d fo (upd fc d x) := by
  obtain ⟨h1, h2, h3, h4, h5⟩ := h
  exact ⟨h1, h2, h3, fun i hi => by rw [pk_un (by omega)]; exact h4 i hi, h5⟩
theorem is_GI_back {b : Nat → Nat} {n S d : Nat} {fo : Nat → Int64} {fc : Nat → Int32} (h : is_GI b n S (d + 1) fo fc) : is_GI b n (S / 2 ^ (8 - d) * 2 ^ (8 - d)) d fo fc ∧ fc d = nI (S / 2 ^ (7 - d) % 2) ∧ S = S / 2 ^ (8 - d) * 2 ^ (8 - d) + S / 2 ^ (7 - d) % 2 * 2 ^ (7 - d) := by
  obtain ⟨h1, h2, h3, h4, h5⟩ := h
  have e7 : 8 - (d + 1) = 7 - d := by omega
  rw [e7] at h3
  obtain ⟨q1, q2, q3⟩ := is_f4 d (by omega) S h1 h3
  refine ⟨⟨q1, by omega, q2, fun i hi => ?_, fun i hi k => ?_⟩, h4 d (by omega), q3⟩
  · rw [h4 i (by omega), is_f5 d (by omega) S h1 h3 i hi]
  · rw [h5 i (by omega), is_f6 d (by omega) S h1 h3 i hi]
/-- the lost baskets of the set at the leaf -/
theorem is_GI_leaf {b : Nat → Nat} {n S : Nat} {fo : Nat → Int64} {fc : Nat → Int32} (h : is_GI b n S 8 fo fc) (k : Nat) : is_lb (fo 8) k = is_ls b n S k := by
  have := h.2.2.2.2 8 (by omega) k
  simpa using this
theorem is_GI_lost {b : Nat → Nat} {n S d : Nat} {fo : Nat → Int64} {fc : Nat → Int32} (h : is_GI b n S d fo fc) (k : Nat) : is_lb (fo d) k = is_ls b n S k := by
  obtain ⟨h1, h2, h3, h4, h5⟩ := h
  have := h5 d (by omega) k
  rw [Nat.div_mul_cancel (Nat.dvd_of_mod_eq_zero h3)] at this
  exact this
/-! folds over the often sets -/
def is_fld (P : Nat → Bool) (f : Nat → Int32 → Int32) : Nat → Int32
  | 0 => nI 0
  | s + 1 => if P s then f s (is_fld P f s) else is_fld P f s
theorem is_fld_t {P : Nat → Bool} {f : Nat → Int32 → Int32} {s : Nat} (h : P s = true) : is_fld P f (s + 1) = f s (is_fld P f s) := if_pos h
theorem is_fld_f {P : Nat → Bool} {f : Nat → Int32 → Int32} {s : Nat} (h : P s = false) : is_fld P f (s + 1) = is_fld P f s := if_neg (by rw [h]; exact Bool.false_ne_true)
theorem is_fld_skip {P : Nat → Bool} {f : Nat → Int32 → Int32} {a : Nat} : ∀ {c : Nat}, a ≤ c → (∀ s, a ≤ s → s < c → P s = false) → is_fld P f c = is_fld P f a
  | 0, h, _ => by rw [Nat.le_zero.mp h]
  | c + 1, h, hs => by
    rcases Nat.lt_or_ge c a with q | q
    · rw [show a = c + 1 by omega]
    · rw [is_fld_f (hs c q (by omega)), is_fld_skip q (fun s h1 h2 => hs s h1 (by omega))]
theorem is_fld_cong {P : Nat → Bool} {f g : Nat → Int32 → Int32} : ∀ {c : Nat}, (∀ s, s < c → P s = true → ∀ a, f s a = g s a) → is_fld P f c = is_fld P g c
  | 0, _ => rfl
  | c + 1, h => by
    have ih := is_fld_cong (f := f) (g := g) (P := P) (c := c) (fun s hs => h s (by omega))
    cases e : P c
    · rw [is_fld_f e, is_fld_f e, ih]
    · rw [is_fld_t e, is_fld_t e, ih, h c (by omega) e]
end
section
/-! PURE 3: the laws of the queries -/
set_option maxRecDepth 100000
/-- baskets that good g would lose beyond those that S lost -/
def is_lo (b : Nat → Nat) (n S g : Nat) : Nat := fb_ct (fun k => is_lack b n g k && !is_ls b n S k) 40
theorem is_lo_le (b : Nat → Nat) (n S g : Nat) : is_lo b n S g ≤ 40 := fb_ct_le _ _
theorem is_lo_sup (b : Nat → Nat) {n S g : Nat} (hn : n ≤ 40) (hS : S < 256) (hg : g < 8) (h : S.testBit g = false) : is_sup b n (S + 2 ^ g) + is_lo b n S g = is_sup b n S := by
  have h1 := is_ls_ct b S hn
  have h2 := is_ls_ct b (S + 2 ^ g) hn
  have h3 : fb_ct (is_ls b n (S + 2 ^ g)) 40 = fb_ct (fun k => is_ls b n S k || (is_lack b n g k && !is_ls b n S k)) 40 := fb_ct_cong fun k _ => by
    rw [is_ls_add b n k hS hg h]
    cases is_ls b n S k <;> cases is_lack b n g k <;> rfl
  have h4 : fb_ct (fun k => is_ls b n S k || (is_lack b n g k && !is_ls b n S k)) 40 = fb_ct (is_ls b n S) 40 + is_lo b n S g := fb_ct_or fun k _ q => by
    obtain ⟨q1, q2⟩ := q
    rw [q1] at q2
    simp at q2
  omega
/-- the loop of leastLoss -/
def is_ll (b : Nat → Nat) (n S : Nat) : Nat → Nat
  | 0 => 41
  | g + 1 => if S.testBit g then is_ll b n S g else if is_lo b n S g < is_ll b n S g then is_lo b n S g else is_ll b n S g
theorem is_ll_t {b : Nat → Nat} {n S g : Nat} (h : S.testBit g = true) : is_ll b n S (g + 1) = is_ll b n S g := if_pos h
theorem is_ll_f {b : Nat → Nat} {n S g : Nat} (h : S.testBit g = false) : is_ll b n S (g + 1) = if is_lo b n S g < is_ll b n S g then is_lo b n S g else is_ll b n S g := if_neg (by rw [h]; exact Bool.false_ne_true)
theorem is_ll_spec (b : Nat → Nat) (n S : Nat) : ∀ m, (∀ g, g < m → S.testBit g = false → is_ll b n S m ≤ is_lo b n S g) ∧ (is_ll b n S m = 41 ∨ ∃ g, g < m ∧ S.testBit g = false ∧ is_ll b n S m = is_lo b n S g) ∧ is_ll b n S m ≤ 41
  | 0 => ⟨fun g h => absurd h (Nat.not_lt_zero g), Or.inl rfl, Nat.le_refl _⟩
  | m + 1 => by
    obtain ⟨h1, h2, h3⟩ := is_ll_spec b n S m
    cases e : S.testBit m
    · rw [is_ll_f e]
      have hle := is_lo_le b n S m
      split
      · rename_i hlt
        refine ⟨fun g hg hs => ?_, Or.inr ⟨m, by omega, e, rfl⟩, by omega⟩
        rcases Nat.lt_or_ge g m with q | q
        · have := h1 g q hs
          omega
        · have : g = m := by omega
          subst this
          exact Nat.le_refl _
      · rename_i hlt
        refine ⟨fun g hg hs => ?_, ?_, h3⟩
        · rcases Nat.lt_or_ge g m with q | q
          · exact h1 g q hs
          · have : g = m := by omega
            subst this
            omega
        · rcases h2 with h2 | ⟨g, q1, q2, q3⟩
          · exact Or.inl h2
          · exact Or.inr ⟨g, by omega, q2, q3⟩
    · rw [is_ll_t e]
      refine ⟨fun g hg hs => ?_, ?_, h3⟩
      · rcases Nat.lt_or_ge g m with q | q
        · exact h1 g q hs
        · have : g = m := by omega
          subst this
          rw [hs] at e
          cases e
      · rcases h2 with h2 | ⟨g, q1, q2, q3⟩
        · exact Or.inl h2
        · exact Or.inr ⟨g, by omega, q2, q3⟩
/-- a larger set holds a further good -/
theorem is_more {S t : Nat} (hS : S < 256) (ht : t < 256) (hne : t ≠ S) (hsub : t &&& S = S) : ∃ g, g < 8 ∧ S.testBit g = false ∧ t &&& (S + 2 ^ g) = S + 2 ^ g := by
  refine Classical.byContradiction fun hx => hne ?_
  have h1 : S &&& t = t := (is_sub_iff ht S).mpr fun g hg htg => by
    cases e : S.testBit g
    · refine absurd ⟨g, hg, e, ?_⟩ hx
      obtain ⟨e1, e2⟩ := is_addg S hS g hg e
      refine (is_sub_iff e2 t).mpr fun j hj hb => ?_
      rw [e1, Nat.testBit_or, Nat.testBit_two_pow, Bool.or_eq_true, decide_eq_true_iff] at hb
      rcases hb with hb | hb
      · exact (is_sub_iff hS t).mp hsub j hj hb
      · rw [← hb]; exact htg
    · rfl
  rw [← h1, Nat.and_comm, hsub]
theorem is_self {S g : Nat} (hS : S < 256) (hg : g < 8) (h : S.testBit g = false) : (S + 2 ^ g) &&& S = S ∧ S + 2 ^ g ≠ S ∧ S + 2 ^ g < 256 := by
  obtain ⟨e1, e2⟩ := is_addg S hS g hg h
  refine ⟨(is_sub_iff hS _).mpr fun j hj hb => by rw [e1, Nat.testBit_or, hb, Bool.true_or], ?_, e2⟩
  have : 0 < 2 ^ g := Nat.two_pow_pos g
  omega
/-- no larger set has the same baskets -/
def is_fu (b : Nat → Nat) (n S : Nat) : Prop := ∀ t, t < 256 → t ≠ S → t &&& S = S → is_sup b n t ≠ is_sup b n S
theorem is_full_law (b : Nat → Nat) {n S : Nat} (hn : n ≤ 40) (hS : S < 256) : is_fu b n S ↔ 0 < is_ll b n S 8 := by
  obtain ⟨h1, h2, h3⟩ := is_ll_spec b n S 8
  constructor
  · intro h
    rcases h2 with h2 | ⟨g, q1, q2, q3⟩
    · omega
    · have e := is_lo_sup b hn hS q1 q2
      obtain ⟨z1, z2, z3⟩ := is_self hS q1 q2
      have := h _ z3 z2 z1
      omega
  · intro h t ht hne hsub hs
    obtain ⟨g, q1, q2, q3⟩ := is_more hS ht hne hsub
    have e := is_lo_sup b hn hS q1 q2
    have a1 := is_sup_anti b n q3
    have a2 := h1 g q1 q2
    omega
/-- no larger set is often -/
def is_la (b : Nat → Nat) (n : Nat) (m : Int32) (S : Nat) : Prop := ∀ t, t < 256 → t ≠ S → t &&& S = S → is_of b n m t = false
theorem is_lt_i {x m : Int32} {a : Nat} (ha : a < 2 ^ 31) (h : x = nI a) : x < m ↔ ¬ m ≤ nI a := by
  rw [h, Int32.lt_iff_toInt_lt, Int32.le_iff_toInt_le]
  omega
theorem is_largest_law (b : Nat → Nat) {n S : Nat} {m : Int32} (hn : n ≤ 40) (hS : S < 256) (hm : nI 1 ≤ m) : is_la b n m S ↔ nI (is_sup b n S) - nI (is_ll b n S 8) < m := by
  obtain ⟨h1, h2, h3⟩ := is_ll_spec b n S 8
  have hsn := is_sup_le b n S
  have hm1 : (1 : Int) ≤ m.toInt := by
    rw [Int32.le_iff_toInt_le, nI_toInt (by decide)] at hm
    exact hm
  constructor
  · intro h
    rcases h2 with h2 | ⟨g, q1, q2, q3⟩
    · rw [h2, Int32.lt_iff_toInt_lt, pk_sub_toInt (by omega) (by decide)]
      omega
    · have e := is_lo_sup b hn hS q1 q2
      obtain ⟨z1, z2, z3⟩ := is_self hS q1 q2
      have f := h _ z3 z2 z1
      rw [q3, pk_sub (by omega), is_lt_i (by omega) rfl]
      intro hx
      rw [is_of_iff.mpr ⟨hm, by have : 0 < 2 ^ g := Nat.two_pow_pos g; omega, by rw [show is_sup b n (S + 2 ^ g) = is_sup b n S - is_lo b n S g by omega]; exact hx⟩] at f
      cases f
  · intro h t ht hne hsub
    obtain ⟨g, q1, q2, q3⟩ := is_more hS ht hne hsub
    have e := is_lo_sup b hn hS q1 q2
    have a2 := h1 g q1 q2
    refine is_of_anti hn q3 ?_
    rw [pk_sub (by omega), is_lt_i (by omega) rfl] at h
    intro hx
    exact h (is_le_tr hx (by omega) (by omega))
/-! closure -/
def is_clo (b : Nat → Nat) (n s : Nat) : Nat → Nat
  | 0 => s
  | g + 1 => if is_lo b n s g = 0 then is_clo b n s g ||| 2 ^ g else is_clo b n s g
theorem is_clo_tb (b : Nat → Nat) (n s j : Nat) : ∀ m, (is_clo b n s m).testBit j = (s.testBit j || (decide (j < m) && decide (is_lo b n s j = 0)))
  | 0 => by simp [is_clo]
  | m + 1 => by
    have ih := is_clo_tb b n s j m
    unfold is_clo
    by_cases e : is_lo b n s m = 0
    · rw [if_pos e, Nat.testBit_or, ih, Nat.testBit_two_pow]
      by_cases q : m = j
      · subst q
        simp [e]
      · have : decide (j < m + 1) = decide (j < m) := by
          rw [decide_eq_decide]; omega
        simp [q, this]
    · rw [if_neg e, ih]
      by_cases q : m = j
      · subst q
        simp [e]
      · have : decide (j < m + 1) = decide (j < m) := by
          rw [decide_eq_decide]; omega
        rw [this]
theorem is_clo_lt (b : Nat → Nat) (n : Nat) {s : Nat} (hs : s < 256) : ∀ m, m ≤ 8 → is_clo b n s m < 256
  | 0, _ => hs
  | m + 1, h => by
    have ih := is_clo_lt b n hs m (by omega)
    unfold is_clo
    split
    · have h2 : 2 ^ m < 2 ^ 8 := Nat.pow_lt_pow_right (by decide) (by omega)
      exact Nat.or_lt_two_pow (n := 8) ih h2
    · exact ih
/-- among the sets that hold s, those within the closure have the same baskets -/
theorem is_lo_zero (b : Nat → Nat) {n s g : Nat} (hn : n ≤ 40) (hs : s < 256) : is_lo b n s g = 0 ↔ ∀ k, k < n → b k &&& s = s → (b k).testBit g = true := by
  unfold is_lo
  rw [fb_ct_zero]
  constructor
  · intro h k hk hb
    have := h k (by omega)
    unfold is_lack is_ls at this
    simp [hk, hb] at this
    exact this
  · intro h k hk
    cases e : is_lack b n g k
    · rfl
    · obtain ⟨e1, e2⟩ := (is_lack_iff b n g k).mp e
      unfold is_ls
      by_cases q : b k &&& s = s
      · rw [h k e1 q] at e2
        cases e2
      · simp [e1, q]
theorem is_clo_in (b : Nat → Nat) {n s t : Nat} (hn : n ≤ 40) (hs : s < 256) (ht : t < 256) (hsub : t &&& s = s) : is_sup b n t = is_sup b n s ↔ is_clo b n s 8 &&& t = t := by
  have hle := is_sup_anti b n hsub
  constructor
  · intro h
    refine (is_sub_iff ht _).mpr fun g hg htg => ?_
    rw [is_clo_tb]
    cases e : s.testBit g
    · have e1 := is_lo_sup b hn hs hg e
      have a1 : is_sup b n t ≤ is_sup b n (s + 2 ^ g) := is_sup_anti b n ((is_sub_iff (is_self hs hg e).2.2 t).mpr fun j hj hb => by
        rw [(is_addg s hs g hg e).1, Nat.testBit_or, Nat.testBit_two_pow, Bool.or_eq_true, decide_eq_true_iff] at hb
        rcases hb with hb | hb
        · exact (is_sub_iff hs t).mp hsub j hj hb
        · rw [← hb]; exact htg)
      have : is_lo b n s g = 0 := by omega
      simp [hg, this]
    · rfl
  · intro h
    refine Nat.le_antisymm hle (fb_ct_sub fun k hk hb => ?_)
    rw [decide_eq_true_iff] at hb ⊢
    refine (is_sub_iff ht _).mpr fun g hg htg => ?_
    have h2 := (is_sub_iff ht _).mp h g hg htg
    rw [is_clo_tb, Bool.or_eq_true] at h2
    rcases h2 with h2 | h2
    · exact (is_sub_iff hs _).mp hb g hg h2
    · rw [Bool.and_eq_true, decide_eq_true_iff, decide_eq_true_iff] at h2
      exact (is_lo_zero b hn hs).mp h2.2 k hk hb
theorem is_clo_self (b : Nat → Nat) {n s : Nat} (hs : s < 256) : is_clo b n s 8 &&& s = s := (is_sub_iff hs _).mpr fun g _ hb => by rw [is_clo_tb, hb, Bool.true_or]
/-- the model's scan -/
def is_sc (b : Nat → Nat) (n s : Nat) : Nat → Nat
  | 0 => s
  | t + 1 => if t &&& s = s ∧ is_sup b n t = is_sup b n s ∧ t &&& is_sc b n s t = is_sc b n s t then t else is_sc b n s t
theorem is_sub_le {x y : Nat} (h : x &&& y = y) : y ≤ x := by rw [← h]; exact Nat.and_le_left
theorem is_sc_spec (b : Nat → Nat) {n s : Nat} (hn : n ≤ 40) (hs : s < 256) : ∀ t, t ≤ 256 → (is_clo b n s 8 &&& is_sc b n s t = is_sc b n s t) ∧ (is_clo b n s 8 < t → is_sc b n s t = is_clo b n s 8)
  | 0, _ => ⟨is_clo_self b hs, fun h => absurd h (Nat.not_lt_zero _)⟩
  | t + 1, h => by
    obtain ⟨h1, h2⟩ := is_sc_spec b hn hs t (by omega)
    have hC := is_clo_lt b n hs 8 (by decide)
    unfold is_sc
    by_cases q : t &&& s = s ∧ is_sup b n t = is_sup b n s ∧ t &&& is_sc b n s t = is_sc b n s t
    · rw [if_pos q]
      obtain ⟨q1, q2, q3⟩ := q
      have hin := (is_clo_in b hn hs (by omega) q1).mp q2
      refine ⟨hin, fun hlt => ?_⟩
      have := is_sub_le hin
      omega
    · rw [if_neg q]
      refine ⟨h1, fun hlt => ?_⟩
      rcases Nat.lt_or_ge (is_clo b n s 8) t with z | z
      · exact h2 z
      · have e : t = is_clo b n s 8 := by omega
        refine absurd ⟨?_, ?_, ?_⟩ q
        · rw [e]; exact is_clo_self b hs
        · exact (is_clo_in b hn hs (by omega) (by rw [e]; exact is_clo_self b hs)).mpr (by rw [e]; exact Nat.and_self _)
        · rw [e] at h1 ⊢; exact h1
theorem is_closure_law (b : Nat → Nat) {n s : Nat} (hn : n ≤ 40) (hs : s < 256) : is_sc b n s 256 = is_clo b n s 8 := (is_sc_spec b hn hs 256 (Nat.le_refl _)).2 (is_clo_lt b n hs 8 (by decide))
theorem is_closure_0 (b : Nat → Nat) {n s : Nat} (hn : n ≤ 40) (hs : s < 256) (h : is_sup b n s = 0) : is_clo b n s 8 = 255 := by
  apply Nat.eq_of_testBit_eq
  intro j
  rw [is_clo_tb, show 255 = 2 ^ 8 - 1 from rfl, Nat.testBit_two_pow_sub_one]
  rcases Nat.lt_or_ge j 8 with q | q
  · have : is_lo b n s j = 0 := (is_lo_zero b hn hs).mpr fun k hk hb => by
      have := fb_ct_zero.mp h k hk
      rw [decide_eq_false_iff_not] at this
      exact absurd hb this
    simp [q, this]
  · have : s.testBit j = false := Nat.testBit_lt_two_pow (Nat.lt_of_lt_of_le hs (Nat.pow_le_pow_right (by decide) q : 2 ^ 8 ≤ 2 ^ j))
    simp [this, Nat.not_lt.mpr q]
/-- lacking[g] & ~gone == 0 -/
theorem is_cz {b : Nat → Nat} {n s g : Nat} {w v : Int64} (hn : n ≤ 40) (hw : ∀ k, is_lb w k = is_lack b n g k) (hv : ∀ k, is_lb v k = is_ls b n s k) : w &&& (v ^^^ (-1)) = 0 ↔ is_lo b n s g = 0 := by
  rw [is_lb_eq0]
  unfold is_lo
  rw [fb_ct_zero]
  constructor
  · intro h k hk
    have := h k (by omega)
    rw [is_lb_and, is_lb_not v (by omega), hw, hv] at this
    exact this
  · intro h k hk
    rw [is_lb_and, is_lb_not v hk, hw, hv]
    rcases Nat.lt_or_ge k 40 with q | q
    · exact h k q
    · have : is_lack b n g k = false := by
        unfold is_lack
        simp [show ¬ k < n by omega]
      simp [this]
theorem is_lo_ct {b : Nat → Nat} {n s g : Nat} {w v : Int64} (hw : ∀ k, is_lb w k = is_lack b n g k) (hv : ∀ k, is_lb v k = is_ls b n s k) : fb_ct (is_lb (w &&& (v ^^^ (-1)))) 40 = is_lo b n s g :=
  fb_ct_cong fun k hk => by rw [is_lb_and, is_lb_not v (by omega), hw, hv]
/-! rules -/
def is_rt (b : Nat → Nat) (n S : Nat) (p : Int32) (x : Nat) : Bool := !decide (100 * (nI (is_sup b n S)).toInt64 < p.toInt64 * (nI (is_sup b n x)).toInt64)
def is_rq (b : Nat → Nat) (n S : Nat) (p : Int32) (x : Nat) : Bool := decide (x ≠ 0) && (decide (x &&& S = x) && is_rt b n S p x)
theorem is_cmp {x y : Int64} : lg_cmp x y < 0 ↔ x < y := by
  unfold lg_cmp
  by_cases h1 : y < x
  · have h2 : ¬ x < y := by
      rw [Int64.lt_iff_toInt_lt] at *
      omega
    simp [h1, h2]
  · by_cases h2 : x = y
    · subst h2
      simp
    · have h3 : x < y := by
        rw [Int64.lt_iff_toInt_lt] at *
        have : x.toInt ≠ y.toInt := fun e => h2 (Int64.toInt_inj.mp e)
        omega
      simp [h1, h2, h3]
/-- the next part below: no part lies between -/
theorem is_gapG : ∀ (N s p x : Nat), s < N → p &&& s = p → p ≠ 0 → x < p → x &&& s = x → x ≤ (p - 1) &&& s
  | 0, s, _, _, h, _, _, _, _ => absurd h (Nat.not_lt_zero s)
  | N + 1, s, p, x, hN, hp, h0, hx, hxs => by
    have p1 : p / 2 &&& s / 2 = p / 2 := by rw [← Nat.and_div_two, hp]
    have x1 : x / 2 &&& s / 2 = x / 2 := by rw [← Nat.and_div_two, hxs]
    have d1 : ((p - 1) &&& s) / 2 = (p - 1) / 2 &&& s / 2 := Nat.and_div_two
    have m1 : ((p - 1) &&& s) % 2 = 1 ↔ (p - 1) % 2 = 1 ∧ s % 2 = 1 := Nat.and_mod_two_eq_one
    have m2 : (x &&& s) % 2 = 1 ↔ x % 2 = 1 ∧ s % 2 = 1 := Nat.and_mod_two_eq_one
    rw [hxs] at m2
    have s0 : s ≠ 0 := by
      intro e
      rw [e, Nat.and_zero] at hp
      exact h0 hp.symm
    rcases Nat.mod_two_eq_zero_or_one p with e | e
    · have ih := is_gapG N (s / 2) (p / 2) (x / 2) (by omega) p1 (by omega) (by omega) x1
      have e2 : (p - 1) / 2 = p / 2 - 1 := by omega
      rw [e2] at d1
      have e3 : (p - 1) % 2 = 1 := by omega
      rcases Nat.mod_two_eq_zero_or_one x with q | q
      · omega
      · have := m2.mp q
        have := m1.mpr ⟨e3, this.2⟩
        omega
    · have e2 : (p - 1) / 2 = p / 2 := by omega
      rw [e2, p1] at d1
      omega
theorem is_gap {s p x : Nat} (h1 : p &&& s = p) (h2 : p ≠ 0) (hx : x < p) (hl : (p - 1) &&& s < x) : x &&& s ≠ x := fun e => by
  have := is_gapG (s + 1) s p x (Nat.lt_succ_self s) h1 h2 hx e
  omega
theorem is_part {s p : Nat} : ((p - 1) &&& s) &&& s = (p - 1) &&& s := by rw [Nat.and_assoc, Nat.and_self]
theorem is_ct_gap {q : Nat → Bool} {a : Nat} : ∀ {c : Nat}, a ≤ c → (∀ x, a ≤ x → x < c → q x = false) → fb_ct q c = fb_ct q a
  | 0, h, _ => by rw [Nat.le_zero.mp h]
  | c + 1, h, hs => by
    rcases Nat.lt_or_ge c a with z | z
    · rw [show a = c + 1 by omega]
    · rw [fb_ct_succ, hs c z (by omega), is_ct_gap z (fun x h1 h2 => hs x h1 (by omega))]
      rfl
theorem is_rq_f {b : Nat → Nat} {n S : Nat} {p : Int32} {x : Nat} (h : x &&& S ≠ x) : is_rq b n S p x = false := by
  unfold is_rq
  simp [h]
theorem is_rq_0 {b : Nat → Nat} {n S : Nat} {p : Int32} : is_rq b n S p 0 = false := by
  unfold is_rq
  simp
/-! next -/
def is_nx (P : Nat → Bool) (fr : Int32) (r : Int32) : Prop := (∃ s, s < 256 ∧ P s = true ∧ fr ≤ nI s ∧ (∀ t, t < s → ¬ (P t = true ∧ fr ≤ nI t)) ∧ r = nI s) ∨ ((∀ s, s < 256 → ¬ (P s = true ∧ fr ≤ nI s)) ∧ r = -1)
theorem is_nx_one {P : Nat → Bool} {fr r r' : Int32} (h : is_nx P fr r) (h' : is_nx P fr r') : r = r' := by
  rcases h with ⟨s, h1, h2, h3, h4, rfl⟩ | ⟨h1, rfl⟩
  · rcases h' with ⟨t, k1, k2, k3, k4, rfl⟩ | ⟨k1, rfl⟩
    · rcases Nat.lt_trichotomy s t with q | q | q
      · exact absurd ⟨h2, h3⟩ (k4 s q)
      · rw [q]
      · exact absurd ⟨k2, k3⟩ (h4 t q)
    · exact absurd ⟨h2, h3⟩ (k1 s h1)
  · rcases h' with ⟨t, k1, k2, k3, k4, rfl⟩ | ⟨k1, rfl⟩
    · exact absurd ⟨k2, k3⟩ (h1 t k1)
    · rfl
end
section
/-! ROWS: the worlds, calls, rows over natural numbers -/
set_option maxRecDepth 100000
abbrev is_cl : List vw_C := [(RX0, TX0, 8), (RX1, TX1, 2)]
abbrev is_US : Type := Int32 × (Nat → Int32) × Int32 × (Nat → Int64) × Int32 × (Nat → Int64) × (Nat → Int32) × Int32
abbrev is_UM : Type := Int32 × (Nat → Int32)
/-- the five cells of an ItemSets: baskets, basket, sorted, lacking, set, lost, choice, depth -/
abbrev is_XW (ha : Nat → Nat) (da : Nat → ClassId) (u : is_US) : va_W := [(ha 0, .inr (0, [.int u.1, .ref (ha 1), .int u.2.2.1, .ref (ha 2), .int u.2.2.2.2.1, .ref (ha 3), .ref (ha 4), .int u.2.2.2.2.2.2.2])), (ha 1, .inl (da 1, 40, .inl u.2.1)), (ha 2, .inl (da 2, 8, .inr (.inl u.2.2.2.1))), (ha 3, .inl (da 3, 9, .inr (.inl u.2.2.2.2.2.1))), (ha 4, .inl (da 4, 9, .inl u.2.2.2.2.2.2.1))]
abbrev is_XT (da : Nat → ClassId) : List (ClassId × FieldType) := [(da 1, .int), (da 2, .long), (da 3, .long), (da 4, .int)]
/-- the two cells of an ItemSetsModel: held, baskets -/
abbrev is_MW (ha : Nat → Nat) (da : Nat → ClassId) (u : is_UM) : va_W := [(ha 0, .inr (1, [.int u.1, .ref (ha 1)])), (ha 1, .inl (da 1, 40, .inl u.2))]
abbrev is_MT (da : Nat → ClassId) : List (ClassId × FieldType) := [(da 1, .int)]
abbrev is_P (dC : Nat → ClassId) (dI : Nat → Nat → Nat) (tys : List (ClassId × FieldType)) (w : va_W) (sz : Nat) (av : List Value) : Array Value → State → Prop := va_Pc av (fun U => U.heap.size = sz ∧ va_P (dC, dI) is_cl w U.heap ∧ va_K (dC, dI) is_cl tys U ∧ va_D (fun _ => True) w)
abbrev is_B {S : Type} (dC : Nat → ClassId) (dI : Nat → Nat → Nat) (tys : List (ClassId × FieldType)) (Wd : S → va_W) (A : Nat → Prop) (u : S) (t : State) : Prop := va_P (dC, dI) is_cl (Wd u) t.heap ∧ va_K (dC, dI) is_cl tys t ∧ va_D A (Wd u)
theorem is_split {A : Nat → Prop} {w1 w2 : va_W} (h : va_D A (w1 ++ w2)) : va_D A w1 ∧ va_D A w2 ∧ ∀ (i j : Nat) (p q : Nat × va_E), w1[i]? = some p → w2[j]? = some q → p.1 ≠ q.1 := by
  have l1 : ∀ {i : Nat} {p : Nat × va_E}, w1[i]? = some p → (w1 ++ w2)[i]? = some p := fun {i} {p} hi => by
    rw [List.getElem?_append_left (List.getElem?_eq_some_iff.mp hi).1]; exact hi
  have l2 : ∀ {i : Nat} {p : Nat × va_E}, w2[i]? = some p → (w1 ++ w2)[w1.length + i]? = some p := fun {i} {p} hi => by
    rw [List.getElem?_append_right (by omega), Nat.add_sub_cancel_left]; exact hi
  refine ⟨⟨fun i j p q hi hj e => h.1 i j p q (l1 hi) (l1 hj) e, fun k q hk => h.2 k q (l1 hk)⟩, ⟨fun i j p q hi hj e => ?_, fun k q hk => h.2 _ q (l2 hk)⟩, fun i j p q hi hj e => ?_⟩
  · have := h.1 _ _ p q (l2 hi) (l2 hj) e
    omega
  · have := h.1 _ _ p q (l1 hi) (l2 hj) e
    have := (List.getElem?_eq_some_iff.mp hi).1
    omega
theorem is_free {A : Nat → Prop} {w : va_W} {H0 H : Heap} {locs : List Loc} (hD : va_D A w) (hS : va_S A H0 H locs) (hA : ∀ q, H0.size ≤ q → A q) : ∀ q, va_A w H.size q → A q := by
  intro q h
  rcases h with ⟨k, e, h⟩ | h
  · exact hD.2 k (q, e) h
  · exact hA q (Nat.le_trans hS.1 h)
section ISR
variable {p : Program} {l : Launch} {e : Env} {R : Room} {s : State} {m : MethodId} {args : Array Value} {below : List Frame} {meth : Method} {c : Code} {H : Heap} {locs : List Loc} {cells slots : Nat} {Q : State → Prop}
variable {cc : ByteArray} {pc : Nat} {ls : Array Slot} {rest : List Value}
theorem is_ti {x : Int32} (y : Int32) (h : x = y) (k : W p l e R s m args below meth c H locs cells slots Q (F0 m pc ls (.int y :: rest))) : W p l e R s m args below meth c H locs cells slots Q (F0 m pc ls (.int x :: rest)) := by rw [h]; exact k
theorem is_tl {x : Int64} (y : Int64) (h : x = y) (k : W p l e R s m args below meth c H locs cells slots Q (F0 m pc ls (.long y :: rest))) : W p l e R s m args below meth c H locs cells slots Q (F0 m pc ls (.long x :: rest)) := by rw [h]; exact k
theorem is_inc (i : Nat) : nI i + Int32.ofInt 1 = nI (i + 1) := nI_1 i
theorem is_icmp_lt (hexec : p.tables.exec = Jvm.exec) (hb : c.code = cc) {a b : Nat} {off : Int} {tgt : Nat} (ha : a < 2 ^ 31) (hbb : b < 2 ^ 31) (hdg : decode cc pc = .ok (.if_icmp .lt off, 3)) (ht : (pc : Int) + off = (tgt : Int)) (kt : a < b → W p l e R s m args below meth c H locs cells slots Q (F0 m tgt ls rest)) (kf : b ≤ a → W p l e R s m args below meth c H locs cells slots Q (F0 m (pc + 3) ls rest)) : W p l e R s m args below meth c H locs cells slots Q (F0 m pc ls (.int (nI b) :: .int (nI a) :: rest)) := lv_icmp_lt hexec hb hdg ht (fun h => kt ((nI_ltI ha hbb).mp h)) (fun h => kf (Nat.not_lt.mp (fun q => h ((nI_ltI ha hbb).mpr q))))
theorem is_icmp_ge (hexec : p.tables.exec = Jvm.exec) (hb : c.code = cc) {a b : Nat} {off : Int} {tgt : Nat} (ha : a < 2 ^ 31) (hbb : b < 2 ^ 31) (hdg : decode cc pc = .ok (.if_icmp .ge off, 3)) (ht : (pc : Int) + off = (tgt : Int)) (kt : b ≤ a → W p l e R s m args below meth c H locs cells slots Q (F0 m tgt ls rest)) (kf : a < b → W p l e R s m args below meth c H locs cells slots Q (F0 m (pc + 3) ls rest)) : W p l e R s m args below meth c H locs cells slots Q (F0 m pc ls (.int (nI b) :: .int (nI a) :: rest)) := lv_icmp_ge hexec hb hdg ht (fun h => kt ((nI_leI hbb ha).mp h)) (fun h => kf (Nat.not_le.mp (fun q => h ((nI_leI hbb ha).mpr q))))
theorem is_icmp_gt (hexec : p.tables.exec = Jvm.exec) (hb : c.code = cc) {a b : Nat} {off : Int} {tgt : Nat} (ha : a < 2 ^ 31) (hbb : b < 2 ^ 31) (hdg : decode cc pc = .ok (.if_icmp .gt off, 3)) (ht : (pc : Int) + off = (tgt : Int)) (kt : b < a → W p l e R s m args below meth c H locs cells slots Q (F0 m tgt ls rest)) (kf : a ≤ b → W p l e R s m args below meth c H locs cells slots Q (F0 m (pc + 3) ls rest)) : W p l e R s m args below meth c H locs cells slots Q (F0 m pc ls (.int (nI b) :: .int (nI a) :: rest)) := lv_icmp_gt hexec hb hdg ht (fun h => kt ((nI_ltI hbb ha).mp h)) (fun h => kf (Nat.not_lt.mp (fun q => h ((nI_ltI hbb ha).mpr q))))
theorem is_icmp_le (hexec : p.tables.exec = Jvm.exec) (hb : c.code = cc) {a b : Nat} {off : Int} {tgt : Nat} (ha : a < 2 ^ 31) (hbb : b < 2 ^ 31) (hdg : decode cc pc = .ok (.if_icmp .le off, 3)) (ht : (pc : Int) + off = (tgt : Int)) (kt : a ≤ b → W p l e R s m args below meth c H locs cells slots Q (F0 m tgt ls rest)) (kf : b < a → W p l e R s m args below meth c H locs cells slots Q (F0 m (pc + 3) ls rest)) : W p l e R s m args below meth c H locs cells slots Q (F0 m pc ls (.int (nI b) :: .int (nI a) :: rest)) := lv_icmp_le hexec hb hdg ht (fun h => kt ((nI_leI ha hbb).mp h)) (fun h => kf (Nat.not_le.mp (fun q => h ((nI_leI ha hbb).mpr q))))
theorem is_icmp_eq (hexec : p.tables.exec = Jvm.exec) (hb : c.code = cc) {a b : Nat} {off : Int} {tgt : Nat} (ha : a < 2 ^ 31) (hbb : b < 2 ^ 31) (hdg : decode cc pc = .ok (.if_icmp .eq off, 3)) (ht : (pc : Int) + off = (tgt : Int)) (kt : a = b → W p l e R s m args below meth c H locs cells slots Q (F0 m tgt ls rest)) (kf : a ≠ b → W p l e R s m args below meth c H locs cells slots Q (F0 m (pc + 3) ls rest)) : W p l e R s m args below meth c H locs cells slots Q (F0 m pc ls (.int (nI b) :: .int (nI a) :: rest)) := lv_icmp_eq hexec hb hdg ht (fun h => kt ((nI_eq ha hbb).mp h)) (fun h => kf (fun q => h ((nI_eq ha hbb).mpr q)))
theorem is_icmp_ne (hexec : p.tables.exec = Jvm.exec) (hb : c.code = cc) {a b : Nat} {off : Int} {tgt : Nat} (ha : a < 2 ^ 31) (hbb : b < 2 ^ 31) (hdg : decode cc pc = .ok (.if_icmp .ne off, 3)) (ht : (pc : Int) + off = (tgt : Int)) (kt : a ≠ b → W p l e R s m args below meth c H locs cells slots Q (F0 m tgt ls rest)) (kf : a = b → W p l e R s m args below meth c H locs cells slots Q (F0 m (pc + 3) ls rest)) : W p l e R s m args below meth c H locs cells slots Q (F0 m pc ls (.int (nI b) :: .int (nI a) :: rest)) := lv_icmp_ne hexec hb hdg ht (fun h => kt (fun q => h ((nI_eq ha hbb).mpr q))) (fun h => kf ((nI_eq ha hbb).mp h))
theorem is_if_eq (hexec : p.tables.exec = Jvm.exec) (hb : c.code = cc) {a : Nat} {off : Int} {tgt : Nat} (ha : a < 2 ^ 31) (hdg : decode cc pc = .ok (.ifCond .eq off, 3)) (ht : (pc : Int) + off = (tgt : Int)) (kt : a = 0 → W p l e R s m args below meth c H locs cells slots Q (F0 m tgt ls rest)) (kf : a ≠ 0 → W p l e R s m args below meth c H locs cells slots Q (F0 m (pc + 3) ls rest)) : W p l e R s m args below meth c H locs cells slots Q (F0 m pc ls (.int (nI a) :: rest)) := lv_if_eq hexec hb hdg ht (fun h => kt ((nI_eq ha (by decide)).mp h)) (fun h => kf (fun q => h ((nI_eq ha (by decide)).mpr q)))
theorem is_if_ne (hexec : p.tables.exec = Jvm.exec) (hb : c.code = cc) {a : Nat} {off : Int} {tgt : Nat} (ha : a < 2 ^ 31) (hdg : decode cc pc = .ok (.ifCond .ne off, 3)) (ht : (pc : Int) + off = (tgt : Int)) (kt : a ≠ 0 → W p l e R s m args below meth c H locs cells slots Q (F0 m tgt ls rest)) (kf : a = 0 → W p l e R s m args below meth c H locs cells slots Q (F0 m (pc + 3) ls rest)) : W p l e R s m args below meth c H locs cells slots Q (F0 m pc ls (.int (nI a) :: rest)) := lv_if_ne hexec hb hdg ht (fun h => kt (fun q => h ((nI_eq ha (by decide)).mpr q))) (fun h => kf ((nI_eq ha (by decide)).mp h))
theorem is_if_le (hexec : p.tables.exec = Jvm.exec) (hb : c.code = cc) {a : Nat} {off : Int} {tgt : Nat} (ha : a < 2 ^ 31) (hdg : decode cc pc = .ok (.ifCond .le off, 3)) (ht : (pc : Int) + off = (tgt : Int)) (kt : a = 0 → W p l e R s m args below meth c H locs cells slots Q (F0 m tgt ls rest)) (kf : 0 < a → W p l e R s m args below meth c H locs cells slots Q (F0 m (pc + 3) ls rest)) : W p l e R s m args below meth c H locs cells slots Q (F0 m pc ls (.int (nI a) :: rest)) := lv_if_le hexec hb hdg ht (fun h => kt (Nat.le_zero.mp ((nI_leI ha (by decide)).mp h))) (fun h => kf (Nat.pos_of_ne_zero (fun q => h ((nI_leI ha (by decide)).mpr (Nat.le_of_eq q)))))
theorem is_if_lt (hexec : p.tables.exec = Jvm.exec) (hb : c.code = cc) {a : Nat} {off : Int} (ha : a < 2 ^ 31) (hdg : decode cc pc = .ok (.ifCond .lt off, 3)) {tgt : Nat} (ht : (pc : Int) + off = (tgt : Int)) (kf : W p l e R s m args below meth c H locs cells slots Q (F0 m (pc + 3) ls rest)) : W p l e R s m args below meth c H locs cells slots Q (F0 m pc ls (.int (nI a) :: rest)) := lv_if_lt hexec hb hdg ht (fun h => absurd h (nI_pos ha)) (fun _ => kf)
end ISR
section ISA
variable {p : Program} {l : Launch} {e : Env} {R : Room} {s : State} {m : MethodId} {args : Array Value} {below : List Frame} {meth : Method} {c : Code} {H : Heap} {locs : List Loc} {cells slots : Nat} {Q : State → Prop}
variable {cc : ByteArray} {pc : Nat} {ls : Array Slot} {rest : List Value}
variable {D : va_G} {cl : List vw_C} {tys : List (ClassId × FieldType)} {ws : va_W} {A : Nat → Prop} {H0 : Heap} {a : Nat}
theorem is_iald (hexec : p.tables.exec = Jvm.exec) (hb : c.code = cc) (hK : va_K D cl tys s) (hP : va_P D cl ws H) (q0 t0 : Nat) {cA : ClassId} {n : Nat} {f : Nat → Int32} (ha : ws[q0]? = some (a, .inl (cA, n, .inl f))) (ht : tys[t0]? = some (cA, .int)) {i : Nat} (hi : i < n) (hn : n < 2 ^ 31) (hdg : decode cc pc = .ok (.iaload, 1)) (kk : W p l e R s m args below meth c H locs cells slots Q (F0 m (pc + 1) ls (.int (f i) :: rest))) : W p l e R s m args below meth c H locs cells slots Q (F0 m pc ls (.int (nI i) :: .ref a :: rest)) := va_iald hexec hb hK hP q0 t0 ha ht (vp_in_nI hi hn) hdg (by rw [nI_clamp (by omega)]; exact kk)
theorem is_lald (hexec : p.tables.exec = Jvm.exec) (hb : c.code = cc) (hK : va_K D cl tys s) (hP : va_P D cl ws H) (q0 t0 : Nat) {cA : ClassId} {n : Nat} {f : Nat → Int64} (ha : ws[q0]? = some (a, .inl (cA, n, .inr (.inl f)))) (ht : tys[t0]? = some (cA, .long)) {i : Nat} (hi : i < n) (hn : n < 2 ^ 31) (hdg : decode cc pc = .ok (.laload, 1)) (kk : W p l e R s m args below meth c H locs cells slots Q (F0 m (pc + 1) ls (.long (f i) :: rest))) : W p l e R s m args below meth c H locs cells slots Q (F0 m pc ls (.int (nI i) :: .ref a :: rest)) := va_lald hexec hb hK hP q0 t0 ha ht (vp_in_nI hi hn) hdg (by rw [nI_clamp (by omega)]; exact kk)
theorem is_iast (hexec : p.tables.exec = Jvm.exec) (hb : c.code = cc) (hK : va_K D cl tys s) (hP : va_P D cl ws H) (hD : va_D A ws) (hS : va_S A H0 H locs) (q0 t0 : Nat) {cA : ClassId} {n : Nat} {f : Nat → Int32} (ha : ws[q0]? = some (a, .inl (cA, n, .inl f))) (ht : tys[t0]? = some (cA, .int)) {i : Nat} {x : Int32} (hi : i < n) (hn : n < 2 ^ 31) (hdg : decode cc pc = .ok (.iastore, 1))
    (kk : ∀ (H1 : Heap) (locs1 : List Loc), va_P D cl (ws.set q0 (a, .inl (cA, n, .inl (upd f i x)))) H1 → va_D A (ws.set q0 (a, .inl (cA, n, .inl (upd f i x)))) → va_S A H0 H1 locs1 → W p l e R s m args below meth c H1 locs1 cells slots Q (F0 m (pc + 1) ls rest)) : W p l e R s m args below meth c H locs cells slots Q (F0 m pc ls (.int x :: .int (nI i) :: .ref a :: rest)) := va_iast hexec hb hK hP hD hS q0 t0 ha ht (vp_in_nI hi hn) hdg (by rw [nI_clamp (by omega)]; exact kk)
theorem is_last (hexec : p.tables.exec = Jvm.exec) (hb : c.code = cc) (hK : va_K D cl tys s) (hP : va_P D cl ws H) (hD : va_D A ws) (hS : va_S A H0 H locs) (q0 t0 : Nat) {cA : ClassId} {n : Nat} {f : Nat → Int64} (ha : ws[q0]? = some (a, .inl (cA, n, .inr (.inl f)))) (ht : tys[t0]? = some (cA, .long)) {i : Nat} {x : Int64} (hi : i < n) (hn : n < 2 ^ 31) (hdg : decode cc pc = .ok (.lastore, 1))
    (kk : ∀ (H1 : Heap) (locs1 : List Loc), va_P D cl (ws.set q0 (a, .inl (cA, n, .inr (.inl (vp_updL f i x))))) H1 → va_D A (ws.set q0 (a, .inl (cA, n, .inr (.inl (vp_updL f i x))))) → va_S A H0 H1 locs1 → W p l e R s m args below meth c H1 locs1 cells slots Q (F0 m (pc + 1) ls rest)) : W p l e R s m args below meth c H locs cells slots Q (F0 m pc ls (.long x :: .int (nI i) :: .ref a :: rest)) := va_last hexec hb hK hP hD hS q0 t0 ha ht (vp_in_nI hi hn) hdg (by rw [nI_clamp (by omega)]; exact kk)
end ISA
section ISC
variable {p : Program} {l : Launch} {e : Env} {R : Room} {s : State} {m : MethodId} {args : Array Value} {below : List Frame} {meth : Method} {c : Code} {H : Heap} {locs : List Loc} {cells slots : Nat} {Q : State → Prop}
variable {cc : ByteArray} {pc : Nat} {ls : Array Slot} {rest : List Value}
variable {y : MethodName} {bytes : ByteArray} {maxL nL n index : Nat} {ret : Option FieldType} {ws : List Cond} {rm : Room} {Ts : List Cond} {own C : String} {b : Addr} {As st0 : List Value} {dC : Nat → ClassId} {dI : Nat → Nat → Nat} {tys : List (ClassId × FieldType)} {A : Nat → Prop}
theorem is_cVi {S : Type} {Wd : S → va_W} {u : S} {post : Int32 → S → Prop} (Sx : CallFix p m c cc nL s args Ts own) (hM : Met l y ws rm (is_P dC dI tys (Wd u) H.size (.ref b :: As)) (va_Qi post (is_B dC dI tys Wd (va_A (Wd u) H.size)) (va_A (Wd u) H.size)) 0 0 (va_A (Wd u) H.size)) (cw : CallW R s args own C index y bytes maxL ret ws rm 0 0 n)
    (hrc : ∃ cellB : Cell, H[b]? = some cellB ∧ cellB.vm.isStatics = false ∧ s.vm.findClass C = some cellB.cls) (hK : va_K (dC, dI) is_cl tys s) (hP : va_P (dC, dI) is_cl (Wd u) H) (hD : va_D A (Wd u)) (hS : va_S A s.heap H locs) (hA : ∀ q, s.heap.size ≤ q → A q) (hn : As.length = n) (hsize : ls.size = nL) (hstack : st0 = As.reverse ++ .ref b :: rest) (hW : (rest.map fun v => v.category).sum ≤ 8) (hdg : decode cc pc = .ok (.invokevirtual index, 3)) (hf : cells ≤ R.cells ∧ slots ≤ R.slots)
    (kk : ∀ (r : Int32) (u' : S) (H1 : Heap) (locs1 : List Loc), post r u' → va_P (dC, dI) is_cl (Wd u') H1 → va_D A (Wd u') → va_S A s.heap H1 locs1 → W p l e R s m args below meth c H1 locs1 cells slots Q (F0 m (pc + 3) ls (.int r :: rest))) : W p l e R s m args below meth c H locs cells slots Q (F0 m pc ls st0) := by
  have hFc := is_free hD hS hA
  refine va_calli (va_runV (As := As) (rest := rest) Sx hM cw ⟨fun a U g mk q => by obtain ⟨q0, q1, qP, qK, qD⟩ := q; exact ⟨q0, q1, qP, va_K.moved (u := U) (U := U.calling g mk a) (Vm.Alike.refl U.vm) qK, qD⟩, hrc, fun U hU hW => ⟨rfl, by rw [hU], by rw [hU]; exact hP, va_K.moved hW.alike hK, hD.weaken (fun _ _ _ _ => trivial)⟩⟩ rfl hn hsize hstack (lv_room hW) hdg hf) hS (fun q _ h => hFc q h) hFc (fun r u' t H1 locs1 ht hvm hw hB hz hk hS => ?_)
  obtain ⟨hP1, hK1, hD1⟩ := hB
  rw [ht] at hP1
  exact kk r u' H1 locs1 hw hP1 (hD1.weaken (fun k q _ h => hFc q.1 h)) hS
theorem is_cVl {S : Type} {Wd : S → va_W} {u : S} {post : Int64 → S → Prop} (Sx : CallFix p m c cc nL s args Ts own) (hM : Met l y ws rm (is_P dC dI tys (Wd u) H.size (.ref b :: As)) (va_Ql post (is_B dC dI tys Wd (va_A (Wd u) H.size)) (va_A (Wd u) H.size)) 0 0 (va_A (Wd u) H.size)) (cw : CallW R s args own C index y bytes maxL ret ws rm 0 0 n)
    (hrc : ∃ cellB : Cell, H[b]? = some cellB ∧ cellB.vm.isStatics = false ∧ s.vm.findClass C = some cellB.cls) (hK : va_K (dC, dI) is_cl tys s) (hP : va_P (dC, dI) is_cl (Wd u) H) (hD : va_D A (Wd u)) (hS : va_S A s.heap H locs) (hA : ∀ q, s.heap.size ≤ q → A q) (hn : As.length = n) (hsize : ls.size = nL) (hstack : st0 = As.reverse ++ .ref b :: rest) (hW : (rest.map fun v => v.category).sum ≤ 8) (hdg : decode cc pc = .ok (.invokevirtual index, 3)) (hf : cells ≤ R.cells ∧ slots ≤ R.slots)
    (kk : ∀ (r : Int64) (u' : S) (H1 : Heap) (locs1 : List Loc), post r u' → va_P (dC, dI) is_cl (Wd u') H1 → va_D A (Wd u') → va_S A s.heap H1 locs1 → W p l e R s m args below meth c H1 locs1 cells slots Q (F0 m (pc + 3) ls (.long r :: rest))) : W p l e R s m args below meth c H locs cells slots Q (F0 m pc ls st0) := by
  have hFc := is_free hD hS hA
  refine va_calll (va_runV (As := As) (rest := rest) Sx hM cw ⟨fun a U g mk q => by obtain ⟨q0, q1, qP, qK, qD⟩ := q; exact ⟨q0, q1, qP, va_K.moved (u := U) (U := U.calling g mk a) (Vm.Alike.refl U.vm) qK, qD⟩, hrc, fun U hU hW => ⟨rfl, by rw [hU], by rw [hU]; exact hP, va_K.moved hW.alike hK, hD.weaken (fun _ _ _ _ => trivial)⟩⟩ rfl hn hsize hstack (lv_room hW) hdg hf) hS (fun q _ h => hFc q h) hFc (fun r u' t H1 locs1 ht hvm hw hB hz hk hS => ?_)
  obtain ⟨hP1, hK1, hD1⟩ := hB
  rw [ht] at hP1
  exact kk r u' H1 locs1 hw hP1 (hD1.weaken (fun k q _ h => hFc q.1 h)) hS
theorem is_cVv {S : Type} {Wd : S → va_W} {u : S} {post : S → Prop} (Sx : CallFix p m c cc nL s args Ts own) (hM : Met l y ws rm (is_P dC dI tys (Wd u) H.size (.ref b :: As)) (va_Qv post (is_B dC dI tys Wd (va_A (Wd u) H.size)) (va_A (Wd u) H.size)) 0 0 (va_A (Wd u) H.size)) (cw : CallW R s args own C index y bytes maxL ret ws rm 0 0 n)
    (hrc : ∃ cellB : Cell, H[b]? = some cellB ∧ cellB.vm.isStatics = false ∧ s.vm.findClass C = some cellB.cls) (hK : va_K (dC, dI) is_cl tys s) (hP : va_P (dC, dI) is_cl (Wd u) H) (hD : va_D A (Wd u)) (hS : va_S A s.heap H locs) (hA : ∀ q, s.heap.size ≤ q → A q) (hn : As.length = n) (hsize : ls.size = nL) (hstack : st0 = As.reverse ++ .ref b :: rest) (hW : (rest.map fun v => v.category).sum ≤ 8) (hdg : decode cc pc = .ok (.invokevirtual index, 3)) (hf : cells ≤ R.cells ∧ slots ≤ R.slots)
    (kk : ∀ (u' : S) (H1 : Heap) (locs1 : List Loc), post u' → va_P (dC, dI) is_cl (Wd u') H1 → va_D A (Wd u') → va_S A s.heap H1 locs1 → W p l e R s m args below meth c H1 locs1 cells slots Q (F0 m (pc + 3) ls (rest))) : W p l e R s m args below meth c H locs cells slots Q (F0 m pc ls st0) := by
  have hFc := is_free hD hS hA
  refine va_callv (va_runV (As := As) (rest := rest) Sx hM cw ⟨fun a U g mk q => by obtain ⟨q0, q1, qP, qK, qD⟩ := q; exact ⟨q0, q1, qP, va_K.moved (u := U) (U := U.calling g mk a) (Vm.Alike.refl U.vm) qK, qD⟩, hrc, fun U hU hW => ⟨rfl, by rw [hU], by rw [hU]; exact hP, va_K.moved hW.alike hK, hD.weaken (fun _ _ _ _ => trivial)⟩⟩ rfl hn hsize hstack (lv_room hW) hdg hf) hS (fun q _ h => hFc q h) hFc (fun u' t H1 locs1 ht hvm hw hB hz hk hS => ?_)
  obtain ⟨hP1, hK1, hD1⟩ := hB
  rw [ht] at hP1
  exact kk u' H1 locs1 hw hP1 (hD1.weaken (fun k q _ h => hFc q.1 h)) hS
/-- a call out of the law: wr is the rest of the world -/
theorem is_cLi {S : Type} {Wd : S → va_W} {u : S} {wr : va_W} {post : Int32 → S → Prop} (Sx : CallFix p m c cc nL s args Ts own) (hM : Met l y ws rm (is_P dC dI tys (Wd u) H.size (.ref b :: As)) (va_Qi post (is_B dC dI tys Wd (va_A (Wd u) H.size)) (va_A (Wd u) H.size)) 0 0 (va_A (Wd u) H.size)) (cw : CallW R s args own C index y bytes maxL ret ws rm 0 0 n)
    (hrc : ∃ cellB : Cell, H[b]? = some cellB ∧ cellB.vm.isStatics = false ∧ s.vm.findClass C = some cellB.cls) (hK : va_K (dC, dI) is_cl tys s) (hP : va_P (dC, dI) is_cl (Wd u) H) (hR : va_P (dC, dI) is_cl wr H) (hDa : va_D A (Wd u ++ wr)) (hS : va_S A s.heap H locs) (hA : ∀ q, s.heap.size ≤ q → A q) (hn : As.length = n) (hsize : ls.size = nL) (hstack : st0 = As.reverse ++ .ref b :: rest) (hW : (rest.map fun v => v.category).sum ≤ 8) (hdg : decode cc pc = .ok (.invokevirtual index, 3)) (hf : cells ≤ R.cells ∧ slots ≤ R.slots)
    (kk : ∀ (r : Int32) (u' : S) (H1 : Heap) (locs1 : List Loc), post r u' → va_P (dC, dI) is_cl (Wd u') H1 → va_P (dC, dI) is_cl wr H1 → va_D A (Wd u' ++ wr) → va_S A s.heap H1 locs1 → W p l e R s m args below meth c H1 locs1 cells slots Q (F0 m (pc + 3) ls (.int r :: rest))) : W p l e R s m args below meth c H locs cells slots Q (F0 m pc ls st0) := by
  obtain ⟨hD, hDr, hap⟩ := is_split hDa
  have hFc := is_free hD hS hA
  have apart : ∀ (k : Nat) (q : Nat × va_E), wr[k]? = some q → q.1 < H.size ∧ ¬ va_A (Wd u) H.size q.1 := by
    intro k q hq
    have hl := (hR k q hq).lt
    refine ⟨hl, fun h => ?_⟩
    rcases h with ⟨k2, e2, h⟩ | h
    · exact hap k2 k _ q h hq rfl
    · omega
  refine va_calli (va_runV (As := As) (rest := rest) Sx hM cw ⟨fun a U g mk q => by obtain ⟨q0, q1, qP, qK, qD⟩ := q; exact ⟨q0, q1, qP, va_K.moved (u := U) (U := U.calling g mk a) (Vm.Alike.refl U.vm) qK, qD⟩, hrc, fun U hU hW => ⟨rfl, by rw [hU], by rw [hU]; exact hP, va_K.moved hW.alike hK, hD.weaken (fun _ _ _ _ => trivial)⟩⟩ rfl hn hsize hstack (lv_room hW) hdg hf) hS (fun q _ h => hFc q h) hFc (fun r u' t H1 locs1 ht hvm hw hB hz hk hS => ?_)
  obtain ⟨hP1, hK1, hD1⟩ := hB
  rw [ht] at hP1
  exact kk r u' H1 locs1 hw hP1 (hR.kept (fun k q hq => hk q.1 (apart k q hq).1 (apart k q hq).2)) (va_D.app (hD1.weaken (fun k q _ h => hFc q.1 h)) hDr (fun i j x y hx hy e => (apart j y hy).2 (by rw [← e]; exact hD1.2 i x hx))) hS
/-- a static call that touches no cell -/
theorem is_cSi {post : Int32 → Unit → Prop} {w : va_W} {cl : List vw_C} (Sx : CallFix p m c cc nL s args Ts own) (hM : Met l y ws rm (va_Pc As (fun _ => True)) (va_Qi post (fun _ _ => True) (fun _ => False)) 0 0 (fun _ => False)) (cw : CallB R s args own index y bytes maxL ret ws rm 0 0 n ∧ (Cond.static y).before args s = true)
    (hP : va_P (dC, dI) cl w H) (hS : va_S A s.heap H locs) (hn : As.length = n) (hsize : ls.size = nL) (hstack : st0 = As.reverse ++ rest) (hW : (rest.map fun v => v.category).sum ≤ 8) (hdg : decode cc pc = .ok (.invokestatic index, 3)) (hf : cells ≤ R.cells ∧ slots ≤ R.slots)
    (kk : ∀ (r : Int32) (H1 : Heap) (locs1 : List Loc), post r () → va_P (dC, dI) cl w H1 → va_S A s.heap H1 locs1 → W p l e R s m args below meth c H1 locs1 cells slots Q (F0 m (pc + 3) ls (.int r :: rest))) : W p l e R s m args below meth c H locs cells slots Q (F0 m pc ls st0) := by
  refine va_calli (va_runS (As := As) (rest := rest) Sx hM cw ⟨fun a U g mk q => ⟨q.1, trivial⟩, fun U hU hW => ⟨rfl, trivial⟩⟩ rfl hn hsize hstack (lv_room hW) hdg hf) hS (fun q _ h => h.elim) (fun q h => h.elim) (fun r u' t H1 locs1 ht hvm hw hB hz hk hS => ?_)
  exact kk r H1 locs1 hw (hP.kept (fun k q hq => hk q.1 (hP k q hq).lt (fun h => h))) hS
end ISC
end
section
/-! CONTRACTS of ItemSets, 1: ones, sort, lostBy, support -/
set_option maxRecDepth 100000
def is_Bk (fb : Nat → Int32) (n : Nat) (b : Nat → Nat) : Prop := ∀ k, k < n → fb k = nI (b k) ∧ b k < 256
def is_Lk (b : Nat → Nat) (n : Nat) (fl : Nat → Int64) : Prop := ∀ g, g < 8 → ∀ k, is_lb (fl g) k = is_lack b n g k
def is_So (b : Nat → Nat) (n : Nat) (so : Int32) (fl : Nat → Int64) : Prop := so = nI 0 ∨ (so = nI 1 ∧ is_Lk b n fl)
theorem is_s0 {b : Nat → Nat} {g k : Nat} {w : Int64} (hb : is_b1 (b k) g ≠ 0) (h : ∀ q, is_lb w q = (decide (q < k) && !(b q).testBit g)) : ∀ q, is_lb (w ||| 0) q = (decide (q < k + 1) && !(b q).testBit g) := by
  intro q
  rw [is_lb_or, is_lb_0, Bool.or_false, h]
  by_cases e : q = k
  · subst e
    have : (b q).testBit g = true := by
      rw [is_b1_tb, decide_eq_true_iff]
      have := is_b1_lt (b q) g
      omega
    simp [this]
  · rw [show decide (q < k + 1) = decide (q < k) from by rw [decide_eq_decide]; omega]
theorem is_s1 {b : Nat → Nat} {g k : Nat} {w : Int64} (hk : k < 64) (hb : is_b1 (b k) g = 0) (h : ∀ q, is_lb w q = (decide (q < k) && !(b q).testBit g)) : ∀ q, is_lb (w ||| (1 <<< ((nI k).toInt64 &&& 63))) q = (decide (q < k + 1) && !(b q).testBit g) := by
  intro q
  rw [is_lb_or, is_lb_shl hk, h]
  by_cases e : k = q
  · subst e
    have := is_b1_0.mp hb
    simp [this]
  · rw [show decide (q < k + 1) = decide (q < k) from by rw [decide_eq_decide]; omega]
    simp [e]
theorem is_any_mod (b : Nat → Nat) (n v k : Nat) : is_any b n v 8 k = is_any b n (v % 256) 8 k := by
  rw [Bool.eq_iff_iff, is_any_iff, is_any_iff]
  constructor
  · rintro ⟨g, h1, h2, h3⟩
    exact ⟨g, h1, by rw [is_tb_mod h1]; exact h2, h3⟩
  · rintro ⟨g, h1, h2, h3⟩
    exact ⟨g, h1, by rw [is_tb_mod h1] at h2; exact h2, h3⟩
theorem is_left' {b : Nat → Nat} {n s : Nat} {w : Int64} (hn : n ≤ 40) (hw : ∀ k, is_lb w k = is_ls b n s k) : nI n - nI (fb_ct (is_lb w) 40) = nI (is_sup b n s) := by
  rw [fb_ct_cong (fun k _ => hw k), is_left b s hn]
set_option maxHeartbeats 4000000 in
set_option maxRecDepth 100000 in
/-- ones(word): how many of its first 40 bits are set -/
theorem metX0_ones (l : Launch) (w : Int64) : Met l yX0_ones (ws_ yX0_ones cX0_ones 4 (some .int)) ({ frames := 0, cells := 0, slots := 0, locals := 0 }) (va_Pc [.long w] (fun _ => True)) (va_Qi (fun (r : Int32) (_ : Unit) => r = nI (fb_ct (is_lb w) 40)) (fun _ _ => True) (fun _ => False)) 0 0 (fun _ => False) := by
  refine Met.ofW (cc := cX0_ones) (maxL := 4) (ret := (some .int)) (by decide) rfl ?_
  intro p e s m args below meth c s₁ B hml hv
  obtain ⟨rfl, -⟩ := hv
  have hx := B.exec
  have hb := B.bytes
  have hr := B.returns
  have hlocks := B.notSynchronized
  obtain ⟨A, hAe⟩ : ∃ A : Nat → Prop, A = fun _ => False := ⟨_, rfl⟩
  rw [← hAe]
  have hS : va_S A s.heap s.heap [] := va_S.rf
  have hl := lv_entry ([.long w]) (n := 4) (Nat.le_of_ble_eq_true rfl)
  rw [lg_entry_eq]
  generalize (lg_sl ([.long w]) ++ List.replicate (4 - (lg_sl ([.long w])).length) Slot.unset).toArray = ls at hl ⊢
  have hl : lv_has ls 4 [(0, .long w)] := hl
  refine lv_iconst (v := nI 0) hx hb dX0_ones_0 (by decide) ?_
  refine lv_istore_n (lv' := [(2, .int (nI 0)), (0, .long w)]) hx hb dX0_ones_1 rfl hl (by decide) rfl (fun ls hl => ?_)
  refine lv_iconst (v := nI 0) hx hb dX0_ones_2 (by decide) ?_
  refine lv_istore_n (lv' := [(3, .int (nI 0)), (2, .int (nI 0)), (0, .long w)]) hx hb dX0_ones_3 rfl hl (by decide) rfl (fun ls hl => ?_)
  have lo : ∀ (j : Nat) (i : Nat), 40 < i + j → i ≤ 40 → ∀ (H : Heap) (locs : List Loc) (ls : Array Slot), va_S A s.heap H locs → lv_has ls 4 [(3, .int (nI i)), (2, .int (nI (fb_ct (is_lb w) i))), (0, .long w)] → W p l e (headSpec (ws_ yX0_ones cX0_ones 4 (some .int)) ({ frames := 0, cells := 0, slots := 0, locals := 0 })).room s m ([.long w] : List Value).toArray below meth c H locs 0 0 (MQ below (va_Qi (fun (r : Int32) (_ : Unit) => r = nI (fb_ct (is_lb w) 40)) (fun _ _ => True) A) ([.long w] : List Value).toArray s 0 0 A) (F0 m 4 ls []) := by
    intro j
    induction j with
    | zero => intro i h1 h2; omega
    | succ j ihlo =>
      intro i h1 h2 H locs ls hS hl
      refine lv_iload_n hx hb dX0_ones_4 rfl (lv_at hl 0 rfl) ?_
      refine lv_bipush (v := nI 40) hx hb dX0_ones_5 (by decide) ?_
      refine is_icmp_ge (a := i) (b := 40) (tgt := 25) hx hb (by omega) (by omega) dX0_ones_7 (by decide) (fun h => ?_) (fun h => ?_)
      · refine lv_iload_n hx hb dX0_ones_25 rfl (lv_at hl 1 rfl) ?_
        exact W.iret (v := nI (fb_ct (is_lb w) i)) hx hb hr (fun t ht hW => ⟨⟨nI (fb_ct (is_lb w) i), (), rfl, by rw [show i = 40 by omega], trivial⟩, hS.F ht⟩) hS.2.2 dX0_ones_26
      · refine lv_iload_n hx hb dX0_ones_10 rfl (lv_at hl 1 rfl) ?_
        refine lv_lload_n hx hb dX0_ones_11 rfl (lv_at hl 2 rfl) ?_
        refine lv_iload_n hx hb dX0_ones_12 rfl (lv_at hl 0 rfl) ?_
        refine lv_lushr (v := (w.toUInt64 >>> ((nI i).toInt64.toUInt64 &&& Int64.toUInt64 63)).toInt64) hx hb dX0_ones_13 rfl ?_
        refine lv_l2i (v := ((w.toUInt64 >>> ((nI i).toInt64.toUInt64 &&& Int64.toUInt64 63)).toInt64).toInt32) hx hb dX0_ones_14 rfl ?_
        refine lv_iconst (v := nI 1) hx hb dX0_ones_15 (by decide) ?_
        refine lv_iand hx hb dX0_ones_16 ?_
        refine is_ti (nI (if is_lb w i then 1 else 0)) (is_lbit w (by omega)) ?_
        refine lv_iadd hx hb dX0_ones_17 ?_
        refine is_ti (nI (fb_ct (is_lb w) (i + 1))) (nI_add _ _) ?_
        refine lv_istore_n (lv' := [(2, .int (nI (fb_ct (is_lb w) (i + 1)))), (3, .int (nI i)), (0, .long w)]) hx hb dX0_ones_18 rfl hl (by decide) rfl (fun ls hl => ?_)
        refine lv_iinc (v := nI (i + 1)) (lv' := [(3, .int (nI (i + 1))), (2, .int (nI (fb_ct (is_lb w) (i + 1)))), (0, .long w)]) hx hb dX0_ones_19 hl (k := 1) rfl (is_inc i) (by decide) rfl (fun ls hl => ?_)
        refine lv_goto (tgt := 4) hx hb dX0_ones_22 (by decide) ?_
        exact ihlo (i + 1) (by omega) (by omega) _ _ _ hS (lv_sub hl [0, 1, 2] rfl)
  exact lo 41 0 (by omega) (by omega) _ _ _ hS (lv_sub hl [0, 1, 2] rfl)
set_option maxHeartbeats 4000000 in
set_option maxRecDepth 100000 in
/-- sort(): the lacking words fit the baskets -/
theorem metX0_sort (l : Launch) (dC : Nat → ClassId) (dI : Nat → Nat → Nat) (ha : Nat → Nat) (da : Nat → ClassId) (sz : Nat) (b : Nat → Nat) (n : Nat) (fb : Nat → Int32) (so : Int32) (fl : Nat → Int64) (st : Int32) (fo : Nat → Int64) (fc : Nat → Int32) (dp : Int32) (hn : n ≤ 40) (hbk : is_Bk fb n b) (hso : is_So b n so fl) : Met l yX0_sort (ws_ yX0_sort cX0_sort 3 none) ({ frames := 0, cells := 0, slots := 0, locals := 0 }) (is_P dC dI (is_XT da) (is_XW ha da (nI n, fb, so, fl, st, fo, fc, dp)) sz [.ref (ha 0)]) (va_Qv (fun (u' : is_US) => ∃ fl' : Nat → Int64, is_Lk b n fl' ∧ u' = (nI n, fb, nI 1, fl', st, fo, fc, dp)) (is_B dC dI (is_XT da) (is_XW ha da) (va_A (is_XW ha da (nI n, fb, so, fl, st, fo, fc, dp)) sz)) (va_A (is_XW ha da (nI n, fb, so, fl, st, fo, fc, dp)) sz)) 0 0 (va_A (is_XW ha da (nI n, fb, so, fl, st, fo, fc, dp)) sz) := by
  refine Met.ofW (cc := cX0_sort) (maxL := 3) (ret := none) (by decide) rfl ?_
  intro p e s m args below meth c s₁ B hml hv
  obtain ⟨rfl, hsz, hP, hK, hD0⟩ := hv
  have hx := B.exec
  have hb := B.bytes
  have hr := B.returns
  have hts := atoms_spec (ws := (ws_ yX0_sort cX0_sort 3 none)) B.pre
  have hts : ∀ w ∈ lw_all, w.before _ s = true := fun w h => hts w (List.mem_cons_of_mem _ h)
  have hown : s.vm.findClass RX0 = some m.cls := findClass_of_methodNamed B.named
  have hlocks := B.notSynchronized
  subst hsz
  have hD := hD0.self (sz := s.heap.size)
  generalize hAe : va_A (is_XW ha da (nI n, fb, so, fl, st, fo, fc, dp)) s.heap.size = A at hD ⊢
  have hA : ∀ q : Nat, s.heap.size ≤ q → A q := fun q h => by rw [← hAe]; exact Or.inr h
  have hS : va_S A s.heap s.heap [] := va_S.rf
  have hl := lv_entry ([.ref (ha 0)]) (n := 3) (Nat.le_of_ble_eq_true rfl)
  rw [lg_entry_eq]
  generalize (lg_sl ([.ref (ha 0)]) ++ List.replicate (3 - (lg_sl ([.ref (ha 0)])).length) Slot.unset).toArray = ls at hl ⊢
  have hl : lv_has ls 3 [(0, .ref (ha 0))] := hl
  rcases hso with rfl | ⟨rfl, hLk⟩
  · refine lv_aload_n hx hb dX0_sort_0 rfl (lv_at hl 0 rfl) ?_
    refine va_get (D := (dC, dI)) (ci := 0) (v := .int (nI 0)) (C := RX0) (T := TX0) (N := 8) hx hb hts in_X0 hown hK hP 0 rfl rfl 2 (by decide) (hts _ q23) (fun _ h9 => h9) rfl dX0_sort_1 ?_
    refine is_if_eq (a := 0) (tgt := 8) hx hb (by omega) dX0_sort_4 (by decide) (fun h => ?_) (fun h => ?_)
    · refine lv_aload_n hx hb dX0_sort_8 rfl (lv_at hl 0 rfl) ?_
      refine lv_iconst (v := nI 1) hx hb dX0_sort_9 (by decide) ?_
      refine va_put (D := (dC, dI)) (ci := 0) (v := .int (nI 1)) (ty := .boolean) (C := RX0) (T := TX0) (N := 8) hx hb hts in_X0 tyX0 tyX0_ok nmX0 hown hK hP hD hS 0 rfl rfl 2 (by decide) (hts _ q23) (fun _ h9 => h9) rfl (by decide +kernel) rfl rfl (Nat.le_of_ble_eq_true rfl) dX0_sort_10 (fun H locs hP hD hS => ?_)
      have hP : va_P (dC, dI) is_cl (is_XW ha da (nI n, fb, nI 1, fl, st, fo, fc, dp)) H := hP
      have hD : va_D A (is_XW ha da (nI n, fb, nI 1, fl, st, fo, fc, dp)) := hD
      refine lv_iconst (v := nI 0) hx hb dX0_sort_13 (by decide) ?_
      refine lv_istore_n (lv' := [(1, .int (nI 0)), (0, .ref (ha 0))]) hx hb dX0_sort_14 rfl hl (by decide) rfl (fun ls hl => ?_)
      have lo : ∀ (j : Nat) (g : Nat) (fl1 : Nat → Int64), 8 < g + j → g ≤ 8 → (∀ g', g' < g → ∀ k, is_lb (fl1 g') k = is_lack b n g' k) → ∀ (H : Heap) (locs : List Loc) (ls : Array Slot), va_P (dC, dI) is_cl (is_XW ha da (nI n, fb, nI 1, fl1, st, fo, fc, dp)) H → va_D A (is_XW ha da (nI n, fb, nI 1, fl1, st, fo, fc, dp)) → va_S A s.heap H locs → lv_has ls 3 [(1, .int (nI g)), (0, .ref (ha 0))] → W p l e (headSpec (ws_ yX0_sort cX0_sort 3 none) ({ frames := 0, cells := 0, slots := 0, locals := 0 })).room s m ([.ref (ha 0)] : List Value).toArray below meth c H locs 0 0 (MQ below (va_Qv (fun (u' : is_US) => ∃ fl' : Nat → Int64, is_Lk b n fl' ∧ u' = (nI n, fb, nI 1, fl', st, fo, fc, dp)) (is_B dC dI (is_XT da) (is_XW ha da) A) A) ([.ref (ha 0)] : List Value).toArray s 0 0 A) (F0 m 15 ls []) := by
        intro j
        induction j with
        | zero => intro g fl1 h1 h2 h3; omega
        | succ j ihlo =>
          intro g fl1 h1 h2 h3 H locs ls hP hD hS hl
          refine lv_iload_n hx hb dX0_sort_15 rfl (lv_at hl 0 rfl) ?_
          refine lv_bipush (v := nI 8) hx hb dX0_sort_16 (by decide) ?_
          refine is_icmp_ge (a := g) (b := 8) (tgt := 79) hx hb (by omega) (by omega) dX0_sort_18 (by decide) (fun hg => ?_) (fun hg => ?_)
          · exact W.vret hx hb hr (fun t ht hW => ⟨⟨(nI n, fb, nI 1, fl1, st, fo, fc, dp), rfl, ⟨fl1, fun g' hg' => h3 g' (by omega), rfl⟩, by rw [ht]; exact hP, va_K.moved hW.alike hK, hD⟩, hS.F ht⟩) hS.2.2 dX0_sort_79
          · refine lv_aload_n hx hb dX0_sort_21 rfl (lv_at hl 1 rfl) ?_
            refine va_get (D := (dC, dI)) (ci := 0) (v := .ref (ha 2)) (C := RX0) (T := TX0) (N := 8) hx hb hts in_X0 hown hK hP 0 rfl rfl 3 (by decide) (hts _ q24) (fun _ h9 => h9) rfl dX0_sort_22 ?_
            refine lv_iload_n hx hb dX0_sort_25 rfl (lv_at hl 0 rfl) ?_
            refine lv_lconst (v := 0) hx hb dX0_sort_26 (by decide) ?_
            refine is_last (f := fl1) hx hb hK hP hD hS 2 1 rfl rfl (by omega) (by decide) dX0_sort_27 (fun H locs hP hD hS => ?_)
            have hP : va_P (dC, dI) is_cl (is_XW ha da (nI n, fb, nI 1, vp_updL fl1 g 0, st, fo, fc, dp)) H := hP
            have hD : va_D A (is_XW ha da (nI n, fb, nI 1, vp_updL fl1 g 0, st, fo, fc, dp)) := hD
            refine lv_iconst (v := nI 0) hx hb dX0_sort_28 (by decide) ?_
            refine lv_istore_n (lv' := [(2, .int (nI 0)), (1, .int (nI g)), (0, .ref (ha 0))]) hx hb dX0_sort_29 rfl hl (by decide) rfl (fun ls hl => ?_)
            have li : ∀ (j2 : Nat) (k : Nat) (fl2 : Nat → Int64), n < k + j2 → k ≤ n → (∀ g', g' < g → ∀ k, is_lb (fl2 g') k = is_lack b n g' k) → (∀ q, is_lb (fl2 g) q = (decide (q < k) && !(b q).testBit g)) → ∀ (H : Heap) (locs : List Loc) (ls : Array Slot), va_P (dC, dI) is_cl (is_XW ha da (nI n, fb, nI 1, fl2, st, fo, fc, dp)) H → va_D A (is_XW ha da (nI n, fb, nI 1, fl2, st, fo, fc, dp)) → va_S A s.heap H locs → lv_has ls 3 [(2, .int (nI k)), (1, .int (nI g)), (0, .ref (ha 0))] → W p l e (headSpec (ws_ yX0_sort cX0_sort 3 none) ({ frames := 0, cells := 0, slots := 0, locals := 0 })).room s m ([.ref (ha 0)] : List Value).toArray below meth c H locs 0 0 (MQ below (va_Qv (fun (u' : is_US) => ∃ fl' : Nat → Int64, is_Lk b n fl' ∧ u' = (nI n, fb, nI 1, fl', st, fo, fc, dp)) (is_B dC dI (is_XT da) (is_XW ha da) A) A) ([.ref (ha 0)] : List Value).toArray s 0 0 A) (F0 m 30 ls []) := by
              intro j2
              induction j2 with
              | zero => intro k fl2 k1 k2 k3 k4; omega
              | succ j2 ihli =>
                intro k fl2 k1 k2 k3 k4 H locs ls hP hD hS hl
                refine lv_iload_n hx hb dX0_sort_30 rfl (lv_at hl 0 rfl) ?_
                refine lv_aload_n hx hb dX0_sort_31 rfl (lv_at hl 2 rfl) ?_
                refine va_get (D := (dC, dI)) (ci := 0) (v := .int (nI n)) (C := RX0) (T := TX0) (N := 8) hx hb hts in_X0 hown hK hP 0 rfl rfl 0 (by decide) (hts _ q21) (fun _ h9 => h9) rfl dX0_sort_32 ?_
                refine is_icmp_ge (a := k) (b := n) (tgt := 73) hx hb (by omega) (by omega) dX0_sort_35 (by decide) (fun hk => ?_) (fun hk => ?_)
                · refine lv_iinc (v := nI (g + 1)) (lv' := [(1, .int (nI (g + 1))), (2, .int (nI k)), (0, .ref (ha 0))]) hx hb dX0_sort_73 hl (k := 1) rfl (is_inc g) (by decide) rfl (fun ls hl => ?_)
                  refine lv_goto (tgt := 15) hx hb dX0_sort_76 (by decide) ?_
                  exact ihlo (g + 1) fl2 (by omega) (by omega) (fun g' hg' => by
                            rcases Nat.lt_or_ge g' g with z | z
                            · exact k3 g' z
                            · have e1 : g' = g := by omega
                              have e2 : k = n := by omega
                              subst e1 e2
                              exact k4) _ _ _ hP hD hS (lv_sub hl [0, 2] rfl)
                · refine lv_aload_n hx hb dX0_sort_38 rfl (lv_at hl 2 rfl) ?_
                  refine va_get (D := (dC, dI)) (ci := 0) (v := .ref (ha 2)) (C := RX0) (T := TX0) (N := 8) hx hb hts in_X0 hown hK hP 0 rfl rfl 3 (by decide) (hts _ q24) (fun _ h9 => h9) rfl dX0_sort_39 ?_
                  refine lv_iload_n hx hb dX0_sort_42 rfl (lv_at hl 1 rfl) ?_
                  refine lv_dup2_11 hx hb dX0_sort_43 rfl rfl ?_
                  refine is_lald (f := fl2) hx hb hK hP 2 1 rfl rfl (by omega) (by decide) dX0_sort_44 ?_
                  refine lv_aload_n hx hb dX0_sort_45 rfl (lv_at hl 2 rfl) ?_
                  refine va_get (D := (dC, dI)) (ci := 0) (v := .ref (ha 1)) (C := RX0) (T := TX0) (N := 8) hx hb hts in_X0 hown hK hP 0 rfl rfl 1 (by decide) (hts _ q22) (fun _ h9 => h9) rfl dX0_sort_46 ?_
                  refine lv_iload_n hx hb dX0_sort_49 rfl (lv_at hl 0 rfl) ?_
                  refine is_iald (f := fb) hx hb hK hP 1 0 rfl rfl (by omega) (by decide) dX0_sort_50 ?_
                  refine is_ti (nI (b k)) ((hbk k (by omega)).1) ?_
                  have hbl := (hbk k (by omega)).2
                  refine lv_iload_n hx hb dX0_sort_51 rfl (lv_at hl 1 rfl) ?_
                  refine lv_iushr (v := nI ((b k) / 2 ^ g)) hx hb dX0_sort_52 (is_ush (by omega) (by omega)) ?_
                  refine lv_iconst (v := nI 1) hx hb dX0_sort_53 (by decide) ?_
                  refine lv_iand hx hb dX0_sort_54 ?_
                  refine is_ti (nI (is_b1 (b k) g)) (is_a1 _) ?_
                  have hb1 := is_b1_lt (b k) g
                  refine is_if_ne (a := (is_b1 (b k) g)) (tgt := 64) hx hb (by omega) dX0_sort_55 (by decide) (fun hz => ?_) (fun hz => ?_)
                  · refine lv_lconst (v := 0) hx hb dX0_sort_64 (by decide) ?_
                    refine lv_lor hx hb dX0_sort_65 ?_
                    refine is_last (f := fl2) hx hb hK hP hD hS 2 1 rfl rfl (by omega) (by decide) dX0_sort_66 (fun H locs hP hD hS => ?_)
                    have hP : va_P (dC, dI) is_cl (is_XW ha da (nI n, fb, nI 1, vp_updL fl2 g ((fl2 g) ||| 0), st, fo, fc, dp)) H := hP
                    have hD : va_D A (is_XW ha da (nI n, fb, nI 1, vp_updL fl2 g ((fl2 g) ||| 0), st, fo, fc, dp)) := hD
                    refine lv_iinc (v := nI (k + 1)) (lv' := [(2, .int (nI (k + 1))), (1, .int (nI g)), (0, .ref (ha 0))]) hx hb dX0_sort_67 hl (k := 0) rfl (is_inc k) (by decide) rfl (fun ls hl => ?_)
                    refine lv_goto (tgt := 30) hx hb dX0_sort_70 (by decide) ?_
                    exact ihli (k + 1) _ (by omega) (by omega) (fun g' hg' k => by rw [pk_uLn (by omega)]; exact k3 g' hg' k) (fun q => by rw [pk_uLs]; exact is_s0 hz k4 q) _ _ _ hP hD hS (lv_sub hl [0, 1, 2] rfl)
                  · refine lv_lconst (v := 1) hx hb dX0_sort_58 (by decide) ?_
                    refine lv_iload_n hx hb dX0_sort_59 rfl (lv_at hl 0 rfl) ?_
                    refine lv_lshl (v := 1 <<< ((nI k).toInt64 &&& 63)) hx hb dX0_sort_60 rfl ?_
                    refine lv_goto (tgt := 65) hx hb dX0_sort_61 (by decide) ?_
                    refine lv_lor hx hb dX0_sort_65 ?_
                    refine is_last (f := fl2) hx hb hK hP hD hS 2 1 rfl rfl (by omega) (by decide) dX0_sort_66 (fun H locs hP hD hS => ?_)
                    have hP : va_P (dC, dI) is_cl (is_XW ha da (nI n, fb, nI 1, vp_updL fl2 g ((fl2 g) ||| (1 <<< ((nI k).toInt64 &&& 63))), st, fo, fc, dp)) H := hP
                    have hD : va_D A (is_XW ha da (nI n, fb, nI 1, vp_updL fl2 g ((fl2 g) ||| (1 <<< ((nI k).toInt64 &&& 63))), st, fo, fc, dp)) := hD
                    refine lv_iinc (v := nI (k + 1)) (lv' := [(2, .int (nI (k + 1))), (1, .int (nI g)), (0, .ref (ha 0))]) hx hb dX0_sort_67 hl (k := 0) rfl (is_inc k) (by decide) rfl (fun ls hl => ?_)
                    refine lv_goto (tgt := 30) hx hb dX0_sort_70 (by decide) ?_
                    exact ihli (k + 1) _ (by omega) (by omega) (fun g' hg' k => by rw [pk_uLn (by omega)]; exact k3 g' hg' k) (fun q => by rw [pk_uLs]; exact is_s1 (by omega) hz k4 q) _ _ _ hP hD hS (lv_sub hl [0, 1, 2] rfl)
            exact li (n + 1) 0 _ (by omega) (by omega) (fun g' hg' k => by rw [pk_uLn (by omega)]; exact h3 g' hg' k) (fun q => by rw [pk_uLs, is_lb_0]; simp) _ _ _ hP hD hS (lv_sub hl [0, 1, 2] rfl)
      exact lo 9 0 _ (by omega) (by omega) (fun g' hg' => absurd hg' (Nat.not_lt_zero g')) _ _ _ hP hD hS (lv_sub hl [0, 1] rfl)
    · exact absurd rfl h
  · refine lv_aload_n hx hb dX0_sort_0 rfl (lv_at hl 0 rfl) ?_
    refine va_get (D := (dC, dI)) (ci := 0) (v := .int (nI 1)) (C := RX0) (T := TX0) (N := 8) hx hb hts in_X0 hown hK hP 0 rfl rfl 2 (by decide) (hts _ q23) (fun _ h9 => h9) rfl dX0_sort_1 ?_
    refine is_if_eq (a := 1) (tgt := 8) hx hb (by omega) dX0_sort_4 (by decide) (fun h => ?_) (fun h => ?_)
    · exact absurd h (by decide)
    · exact W.vret hx hb hr (fun t ht hW => ⟨⟨(nI n, fb, nI 1, fl, st, fo, fc, dp), rfl, ⟨fl, hLk, rfl⟩, by rw [ht]; exact hP, va_K.moved hW.alike hK, hD⟩, hS.F ht⟩) hS.2.2 dX0_sort_7
set_option maxHeartbeats 4000000 in
set_option maxRecDepth 100000 in
/-- lostBy(goods): the baskets that lack one of them -/
theorem metX0_lostBy (l : Launch) (dC : Nat → ClassId) (dI : Nat → Nat → Nat) (ha : Nat → Nat) (da : Nat → ClassId) (sz : Nat) (b : Nat → Nat) (n : Nat) (fb : Nat → Int32) (so : Int32) (fl : Nat → Int64) (st : Int32) (fo : Nat → Int64) (fc : Nat → Int32) (dp : Int32) (hn : n ≤ 40) (hbk : is_Bk fb n b) (hso : is_So b n so fl) (v : Nat) (hv : v < 2 ^ 32) : Met l yX0_lostBy (ws_ yX0_lostBy cX0_lostBy 5 (some .long)) ({ frames := 1, cells := 0, slots := 0, locals := 22 }) (is_P dC dI (is_XT da) (is_XW ha da (nI n, fb, so, fl, st, fo, fc, dp)) sz [.ref (ha 0), .int (nI v)]) (va_Ql (fun (r : Int64) (u' : is_US) => (∀ k, is_lb r k = is_ls b n (v % 256) k) ∧ ∃ fl' : Nat → Int64, is_Lk b n fl' ∧ u' = (nI n, fb, nI 1, fl', st, fo, fc, dp)) (is_B dC dI (is_XT da) (is_XW ha da) (va_A (is_XW ha da (nI n, fb, so, fl, st, fo, fc, dp)) sz)) (va_A (is_XW ha da (nI n, fb, so, fl, st, fo, fc, dp)) sz)) 0 0 (va_A (is_XW ha da (nI n, fb, so, fl, st, fo, fc, dp)) sz) := by
  refine Met.ofW (cc := cX0_lostBy) (maxL := 5) (ret := (some .long)) (by decide) rfl ?_
  intro p e s m args below meth c s₁ B hml hv
  obtain ⟨rfl, hsz, hP, hK, hD0⟩ := hv
  have hx := B.exec
  have hb := B.bytes
  have hr := B.returns
  have hts := atoms_spec (ws := (ws_ yX0_lostBy cX0_lostBy 5 (some .long))) B.pre
  have hts : ∀ w ∈ lw_all, w.before _ s = true := fun w h => hts w (List.mem_cons_of_mem _ h)
  have hown : s.vm.findClass RX0 = some m.cls := findClass_of_methodNamed B.named
  have hlocks := B.notSynchronized
  subst hsz
  have hD := hD0.self (sz := s.heap.size)
  generalize hAe : va_A (is_XW ha da (nI n, fb, so, fl, st, fo, fc, dp)) s.heap.size = A at hD ⊢
  have hA : ∀ q : Nat, s.heap.size ≤ q → A q := fun q h => by rw [← hAe]; exact Or.inr h
  have hS : va_S A s.heap s.heap [] := va_S.rf
  have hl := lv_entry ([.ref (ha 0), .int (nI v)]) (n := 5) (Nat.le_of_ble_eq_true rfl)
  rw [lg_entry_eq]
  generalize (lg_sl ([.ref (ha 0), .int (nI v)]) ++ List.replicate (5 - (lg_sl ([.ref (ha 0), .int (nI v)])).length) Slot.unset).toArray = ls at hl ⊢
  have hl : lv_has ls 5 [(0, .ref (ha 0)), (1, .int (nI v))] := hl
  refine lv_aload_n hx hb dX0_lostBy_0 rfl (lv_at hl 0 rfl) ?_
  refine is_cVv (Wd := is_XW ha da) (u := (nI n, fb, so, fl, st, fo, fc, dp)) (As := []) (rest := []) (b := ha 0) ⟨hx, hb, hml, hown, hts⟩ (metX0_sort l dC dI ha da _ b n fb so fl st fo fc dp hn hbk hso) (cwV 0 hts (lw_V q64 q66 qs1 q11 q67) rfl rfl rfl (by decide +kernel) ⟨Nat.le_of_ble_eq_true rfl, Nat.le_of_ble_eq_true rfl⟩) (va_recv hK hP (ci := 0) (q0 := 0) rfl rfl) hK hP hD hS hA rfl hl.1 rfl (Nat.le_of_ble_eq_true rfl) dX0_lostBy_1 ⟨Nat.zero_le _, Nat.zero_le _⟩ (fun u' H locs hw hP hD hS => ?_)
  obtain ⟨fl', hLk, rfl⟩ := hw
  have hP : va_P (dC, dI) is_cl (is_XW ha da (nI n, fb, nI 1, fl', st, fo, fc, dp)) H := hP
  have hD : va_D A (is_XW ha da (nI n, fb, nI 1, fl', st, fo, fc, dp)) := hD
  refine lv_lconst (v := 0) hx hb dX0_lostBy_4 (by decide) ?_
  refine lv_lstore_n (lv' := [(2, .long 0), (0, .ref (ha 0)), (1, .int (nI v))]) hx hb dX0_lostBy_5 rfl hl (by decide) rfl (fun ls hl => ?_)
  refine lv_iconst (v := nI 0) hx hb dX0_lostBy_6 (by decide) ?_
  refine lv_istore (lv' := [(4, .int (nI 0)), (2, .long 0), (0, .ref (ha 0)), (1, .int (nI v))]) hx hb dX0_lostBy_7 hl (by decide) rfl (fun ls hl => ?_)
  have lo : ∀ (j : Nat) (g : Nat) (w : Int64), 8 < g + j → g ≤ 8 → (∀ k, is_lb w k = is_any b n v g k) → ∀ (H : Heap) (locs : List Loc) (ls : Array Slot), va_P (dC, dI) is_cl (is_XW ha da (nI n, fb, nI 1, fl', st, fo, fc, dp)) H → va_D A (is_XW ha da (nI n, fb, nI 1, fl', st, fo, fc, dp)) → va_S A s.heap H locs → lv_has ls 5 [(4, .int (nI g)), (2, .long w), (0, .ref (ha 0)), (1, .int (nI v))] → W p l e (headSpec (ws_ yX0_lostBy cX0_lostBy 5 (some .long)) ({ frames := 1, cells := 0, slots := 0, locals := 22 })).room s m ([.ref (ha 0), .int (nI v)] : List Value).toArray below meth c H locs 0 0 (MQ below (va_Ql (fun (r : Int64) (u' : is_US) => (∀ k, is_lb r k = is_ls b n (v % 256) k) ∧ ∃ fl' : Nat → Int64, is_Lk b n fl' ∧ u' = (nI n, fb, nI 1, fl', st, fo, fc, dp)) (is_B dC dI (is_XT da) (is_XW ha da) A) A) ([.ref (ha 0), .int (nI v)] : List Value).toArray s 0 0 A) (F0 m 9 ls []) := by
    intro j
    induction j with
    | zero => intro g w h1 h2 h3; omega
    | succ j ihlo =>
      intro g w h1 h2 h3 H locs ls hP hD hS hl
      refine lv_iload hx hb dX0_lostBy_9 (lv_at hl 0 rfl) ?_
      refine lv_bipush (v := nI 8) hx hb dX0_lostBy_11 (by decide) ?_
      refine is_icmp_ge (a := g) (b := 8) (tgt := 45) hx hb (by omega) (by omega) dX0_lostBy_13 (by decide) (fun hg => ?_) (fun hg => ?_)
      · refine lv_lload_n hx hb dX0_lostBy_45 rfl (lv_at hl 1 rfl) ?_
        have e : g = 8 := by omega
        subst e
        exact W.lret (v := w) hx hb hr (fun t ht hW => ⟨⟨w, (nI n, fb, nI 1, fl', st, fo, fc, dp), rfl, ⟨fun k => by rw [h3, is_any_mod, is_any_8 b n k (Nat.mod_lt _ (by decide))], fl', hLk, rfl⟩, by rw [ht]; exact hP, va_K.moved hW.alike hK, hD⟩, hS.F ht⟩) hS.2.2 dX0_lostBy_46
      · refine lv_lload_n hx hb dX0_lostBy_16 rfl (lv_at hl 1 rfl) ?_
        refine lv_iload_n hx hb dX0_lostBy_17 rfl (lv_at hl 3 rfl) ?_
        refine lv_iload hx hb dX0_lostBy_18 (lv_at hl 0 rfl) ?_
        refine lv_iushr (v := nI (v / 2 ^ g)) hx hb dX0_lostBy_20 (is_ush (by omega) (by omega)) ?_
        refine lv_iconst (v := nI 1) hx hb dX0_lostBy_21 (by decide) ?_
        refine lv_iand hx hb dX0_lostBy_22 ?_
        refine is_ti (nI (is_b1 v g)) (is_a1 _) ?_
        have hb1 := is_b1_lt v g
        refine is_if_eq (a := (is_b1 v g)) (tgt := 36) hx hb (by omega) dX0_lostBy_23 (by decide) (fun hz => ?_) (fun hz => ?_)
        · refine lv_lconst (v := 0) hx hb dX0_lostBy_36 (by decide) ?_
          refine lv_lor hx hb dX0_lostBy_37 ?_
          refine lv_lstore_n (lv' := [(2, .long (w ||| 0)), (4, .int (nI g)), (0, .ref (ha 0)), (1, .int (nI v))]) hx hb dX0_lostBy_38 rfl hl (by decide) rfl (fun ls hl => ?_)
          refine lv_iinc (v := nI (g + 1)) (lv' := [(4, .int (nI (g + 1))), (2, .long (w ||| 0)), (0, .ref (ha 0)), (1, .int (nI v))]) hx hb dX0_lostBy_39 hl (k := 1) rfl (is_inc g) (by decide) rfl (fun ls hl => ?_)
          refine lv_goto (tgt := 9) hx hb dX0_lostBy_42 (by decide) ?_
          exact ihlo (g + 1) _ (by omega) (by omega) (fun k => by
            show _ = (is_any b n v g k || (v.testBit g && is_lack b n g k))
            rw [is_lb_or, is_lb_0, h3, is_b1_0.mp hz, Bool.false_and]) _ _ _ hP hD hS (lv_sub hl [0, 1, 2, 3] rfl)
        · refine lv_aload_n hx hb dX0_lostBy_26 rfl (lv_at hl 2 rfl) ?_
          refine va_get (D := (dC, dI)) (ci := 0) (v := .ref (ha 2)) (C := RX0) (T := TX0) (N := 8) hx hb hts in_X0 hown hK hP 0 rfl rfl 3 (by decide) (hts _ q24) (fun _ h9 => h9) rfl dX0_lostBy_27 ?_
          refine lv_iload hx hb dX0_lostBy_30 (lv_at hl 0 rfl) ?_
          refine is_lald (f := fl') hx hb hK hP 2 1 rfl rfl (by omega) (by decide) dX0_lostBy_32 ?_
          refine lv_goto (tgt := 37) hx hb dX0_lostBy_33 (by decide) ?_
          refine lv_lor hx hb dX0_lostBy_37 ?_
          refine lv_lstore_n (lv' := [(2, .long (w ||| (fl' g))), (4, .int (nI g)), (0, .ref (ha 0)), (1, .int (nI v))]) hx hb dX0_lostBy_38 rfl hl (by decide) rfl (fun ls hl => ?_)
          refine lv_iinc (v := nI (g + 1)) (lv' := [(4, .int (nI (g + 1))), (2, .long (w ||| (fl' g))), (0, .ref (ha 0)), (1, .int (nI v))]) hx hb dX0_lostBy_39 hl (k := 1) rfl (is_inc g) (by decide) rfl (fun ls hl => ?_)
          refine lv_goto (tgt := 9) hx hb dX0_lostBy_42 (by decide) ?_
          exact ihlo (g + 1) _ (by omega) (by omega) (fun k => by
            show _ = (is_any b n v g k || (v.testBit g && is_lack b n g k))
            rw [is_lb_or, h3, hLk g (by omega), show v.testBit g = true from by rw [is_b1_tb, decide_eq_true_iff]; omega, Bool.true_and]) _ _ _ hP hD hS (lv_sub hl [0, 1, 2, 3] rfl)
  exact lo 9 0 0 (by omega) (by omega) (fun k => is_lb_0 k) _ _ _ hP hD hS (lv_sub hl [0, 1, 2, 3] rfl)
set_option maxHeartbeats 4000000 in
set_option maxRecDepth 100000 in
/-- support(set) -/
theorem metX0_support (l : Launch) (dC : Nat → ClassId) (dI : Nat → Nat → Nat) (ha : Nat → Nat) (da : Nat → ClassId) (sz : Nat) (b : Nat → Nat) (n : Nat) (fb : Nat → Int32) (so : Int32) (fl : Nat → Int64) (st : Int32) (fo : Nat → Int64) (fc : Nat → Int32) (dp : Int32) (hn : n ≤ 40) (hbk : is_Bk fb n b) (hso : is_So b n so fl) (v : Nat) (hv : v < 2 ^ 32) : Met l yX0_support (ws_ yX0_support cX0_support 4 (some .int)) ({ frames := 2, cells := 0, slots := 0, locals := 46 }) (is_P dC dI (is_XT da) (is_XW ha da (nI n, fb, so, fl, st, fo, fc, dp)) sz [.ref (ha 0), .int (nI v)]) (va_Qi (fun (r : Int32) (u' : is_US) => r = nI (is_sup b n (v % 256)) ∧ ∃ fl' : Nat → Int64, is_Lk b n fl' ∧ u' = (nI n, fb, nI 1, fl', st, fo, fc, dp)) (is_B dC dI (is_XT da) (is_XW ha da) (va_A (is_XW ha da (nI n, fb, so, fl, st, fo, fc, dp)) sz)) (va_A (is_XW ha da (nI n, fb, so, fl, st, fo, fc, dp)) sz)) 0 0 (va_A (is_XW ha da (nI n, fb, so, fl, st, fo, fc, dp)) sz) := by
  refine Met.ofW (cc := cX0_support) (maxL := 4) (ret := (some .int)) (by decide) rfl ?_
  intro p e s m args below meth c s₁ B hml hv
  obtain ⟨rfl, hsz, hP, hK, hD0⟩ := hv
  have hx := B.exec
  have hb := B.bytes
  have hr := B.returns
  have hts := atoms_spec (ws := (ws_ yX0_support cX0_support 4 (some .int))) B.pre
  have hts : ∀ w ∈ lw_all, w.before _ s = true := fun w h => hts w (List.mem_cons_of_mem _ h)
  have hown : s.vm.findClass RX0 = some m.cls := findClass_of_methodNamed B.named
  have hlocks := B.notSynchronized
  subst hsz
  have hD := hD0.self (sz := s.heap.size)
  generalize hAe : va_A (is_XW ha da (nI n, fb, so, fl, st, fo, fc, dp)) s.heap.size = A at hD ⊢
  have hA : ∀ q : Nat, s.heap.size ≤ q → A q := fun q h => by rw [← hAe]; exact Or.inr h
  have hS : va_S A s.heap s.heap [] := va_S.rf
  have hl := lv_entry ([.ref (ha 0), .int (nI v)]) (n := 4) (Nat.le_of_ble_eq_true rfl)
  rw [lg_entry_eq]
  generalize (lg_sl ([.ref (ha 0), .int (nI v)]) ++ List.replicate (4 - (lg_sl ([.ref (ha 0), .int (nI v)])).length) Slot.unset).toArray = ls at hl ⊢
  have hl : lv_has ls 4 [(0, .ref (ha 0)), (1, .int (nI v))] := hl
  refine lv_aload_n hx hb dX0_support_0 rfl (lv_at hl 0 rfl) ?_
  refine lv_iload_n hx hb dX0_support_1 rfl (lv_at hl 1 rfl) ?_
  refine is_cVl (Wd := is_XW ha da) (u := (nI n, fb, so, fl, st, fo, fc, dp)) (As := [.int (nI v)]) (rest := []) (b := ha 0) ⟨hx, hb, hml, hown, hts⟩ (metX0_lostBy l dC dI ha da _ b n fb so fl st fo fc dp hn hbk hso v hv) (cwV 1 hts (lw_V q60 q62 qs0 q11 q63) rfl rfl rfl (by decide +kernel) ⟨Nat.le_of_ble_eq_true rfl, Nat.le_of_ble_eq_true rfl⟩) (va_recv hK hP (ci := 0) (q0 := 0) rfl rfl) hK hP hD hS hA rfl hl.1 rfl (Nat.le_of_ble_eq_true rfl) dX0_support_2 ⟨Nat.zero_le _, Nat.zero_le _⟩ (fun r u' H locs hw hP hD hS => ?_)
  obtain ⟨hr1, fl', hLk, rfl⟩ := hw
  have hP : va_P (dC, dI) is_cl (is_XW ha da (nI n, fb, nI 1, fl', st, fo, fc, dp)) H := hP
  have hD : va_D A (is_XW ha da (nI n, fb, nI 1, fl', st, fo, fc, dp)) := hD
  refine lv_lstore_n (lv' := [(2, .long r), (0, .ref (ha 0)), (1, .int (nI v))]) hx hb dX0_support_5 rfl hl (by decide) rfl (fun ls hl => ?_)
  refine lv_aload_n hx hb dX0_support_6 rfl (lv_at hl 1 rfl) ?_
  refine va_get (D := (dC, dI)) (ci := 0) (v := .int (nI n)) (C := RX0) (T := TX0) (N := 8) hx hb hts in_X0 hown hK hP 0 rfl rfl 0 (by decide) (hts _ q21) (fun _ h9 => h9) rfl dX0_support_7 ?_
  refine lv_lload_n hx hb dX0_support_10 rfl (lv_at hl 0 rfl) ?_
  refine is_cSi (As := [.long r]) (rest := [.int (nI n)]) ⟨hx, hb, hml, hown, hts⟩ (metX0_ones l r) (va_cwS 1 hts (lw_S q68 q69 q11 q70) rfl rfl rfl (by decide +kernel) ⟨Nat.le_of_ble_eq_true rfl, Nat.le_of_ble_eq_true rfl⟩) hP hS rfl hl.1 rfl (Nat.le_of_ble_eq_true rfl) dX0_support_11 ⟨Nat.zero_le _, Nat.zero_le _⟩ (fun r H locs hw hP hS => ?_)
  subst hw
  refine lv_isub hx hb dX0_support_14 ?_
  refine is_ti (nI (is_sup b n (v % 256))) (is_left' hn hr1) ?_
  exact W.iret (v := nI (is_sup b n (v % 256))) hx hb hr (fun t ht hW => ⟨⟨nI (is_sup b n (v % 256)), (nI n, fb, nI 1, fl', st, fo, fc, dp), rfl, ⟨rfl, fl', hLk, rfl⟩, by rw [ht]; exact hP, va_K.moved hW.alike hK, hD⟩, hS.F ht⟩) hS.2.2 dX0_support_15
end
section
/-! CONTRACTS of ItemSets, 2: add, drop, leastLoss, closure -/
set_option maxRecDepth 100000
/-- place j is dropped, moved down as far as place e -/
def is_dr (f : Nat → Int32) (j e : Nat) : Nat → Int32 := fun k => if j ≤ k ∧ k < e then f (k + 1) else f k
theorem is_dr_0 (f : Nat → Int32) (j : Nat) : f = is_dr f j j := funext fun k => by unfold is_dr; rw [if_neg (by omega)]
theorem is_dr_n (f : Nat → Int32) {j e : Nat} : is_dr f j e (e + 1) = f (e + 1) := by unfold is_dr; rw [if_neg (by omega)]
theorem is_dr_s (f : Nat → Int32) {j e : Nat} (h : j ≤ e) : upd (is_dr f j e) e (f (e + 1)) = is_dr f j (e + 1) := funext fun k => by
  by_cases q : k = e
  · subst q
    rw [pk_us]
    unfold is_dr
    rw [if_pos (by omega)]
  · rw [pk_un q]
    unfold is_dr
    by_cases z : j ≤ k ∧ k < e
    · rw [if_pos z, if_pos (by omega)]
    · rw [if_neg z, if_neg (by omega)]
theorem is_cmp0 {x y : Int64} : lg_cmp x y = 0 ↔ x = y := by
  unfold lg_cmp
  by_cases h1 : y < x
  · have h2 : ¬ x = y := by
      rw [Int64.lt_iff_toInt_lt] at h1
      intro e
      rw [e] at h1
      omega
    simp [h1, h2]
  · by_cases h2 : x = y
    · subst h2
      simp
    · simp [h1, h2]
theorem is_shl1 : ∀ g, g < 8 → nI 1 <<< (nI g &&& 31) = nI (2 ^ g) := by decide +kernel
theorem is_clo_t {b : Nat → Nat} {n s g : Nat} (h : is_lo b n s g = 0) : is_clo b n s (g + 1) = is_clo b n s g ||| 2 ^ g := if_pos h
theorem is_clo_f {b : Nat → Nat} {n s g : Nat} (h : ¬ is_lo b n s g = 0) : is_clo b n s (g + 1) = is_clo b n s g := if_neg h
theorem is_or0 (x : Nat) : nI x ||| nI 0 = nI x := by rw [is_or, Nat.or_zero]
set_option maxHeartbeats 4000000 in
set_option maxRecDepth 100000 in
/-- add(basket) -/
theorem metX0_add (l : Launch) (dC : Nat → ClassId) (dI : Nat → Nat → Nat) (ha : Nat → Nat) (da : Nat → ClassId) (sz : Nat) (n : Nat) (fb : Nat → Int32) (so : Int32) (fl : Nat → Int64) (st : Int32) (fo : Nat → Int64) (fc : Nat → Int32) (dp : Int32) (hn : n ≤ 40) (v : Nat) (hv : v < 2 ^ 32) : Met l yX0_add (ws_ yX0_add cX0_add 2 (some .int)) ({ frames := 0, cells := 0, slots := 0, locals := 0 }) (is_P dC dI (is_XT da) (is_XW ha da (nI n, fb, so, fl, st, fo, fc, dp)) sz [.ref (ha 0), .int (nI v)]) (va_Qi (fun (r : Int32) (u' : is_US) => (n < 40 ∧ r = nI (n + 1) ∧ u' = (nI (n + 1), upd fb n (nI (v % 256)), nI 0, fl, st, fo, fc, dp)) ∨ (n = 40 ∧ r = -1 ∧ u' = (nI n, fb, so, fl, st, fo, fc, dp))) (is_B dC dI (is_XT da) (is_XW ha da) (va_A (is_XW ha da (nI n, fb, so, fl, st, fo, fc, dp)) sz)) (va_A (is_XW ha da (nI n, fb, so, fl, st, fo, fc, dp)) sz)) 0 0 (va_A (is_XW ha da (nI n, fb, so, fl, st, fo, fc, dp)) sz) := by
  refine Met.ofW (cc := cX0_add) (maxL := 2) (ret := (some .int)) (by decide) rfl ?_
  intro p e s m args below meth c s₁ B hml hv
  obtain ⟨rfl, hsz, hP, hK, hD0⟩ := hv
  have hx := B.exec
  have hb := B.bytes
  have hr := B.returns
  have hts := atoms_spec (ws := (ws_ yX0_add cX0_add 2 (some .int))) B.pre
  have hts : ∀ w ∈ lw_all, w.before _ s = true := fun w h => hts w (List.mem_cons_of_mem _ h)
  have hown : s.vm.findClass RX0 = some m.cls := findClass_of_methodNamed B.named
  have hlocks := B.notSynchronized
  subst hsz
  have hD := hD0.self (sz := s.heap.size)
  generalize hAe : va_A (is_XW ha da (nI n, fb, so, fl, st, fo, fc, dp)) s.heap.size = A at hD ⊢
  have hA : ∀ q : Nat, s.heap.size ≤ q → A q := fun q h => by rw [← hAe]; exact Or.inr h
  have hS : va_S A s.heap s.heap [] := va_S.rf
  have hl := lv_entry ([.ref (ha 0), .int (nI v)]) (n := 2) (Nat.le_of_ble_eq_true rfl)
  rw [lg_entry_eq]
  generalize (lg_sl ([.ref (ha 0), .int (nI v)]) ++ List.replicate (2 - (lg_sl ([.ref (ha 0), .int (nI v)])).length) Slot.unset).toArray = ls at hl ⊢
  have hl : lv_has ls 2 [(0, .ref (ha 0)), (1, .int (nI v))] := hl
  refine lv_aload_n hx hb dX0_add_0 rfl (lv_at hl 0 rfl) ?_
  refine va_get (D := (dC, dI)) (ci := 0) (v := .int (nI n)) (C := RX0) (T := TX0) (N := 8) hx hb hts in_X0 hown hK hP 0 rfl rfl 0 (by decide) (hts _ q21) (fun _ h9 => h9) rfl dX0_add_1 ?_
  refine lv_bipush (v := nI 40) hx hb dX0_add_4 (by decide) ?_
  refine is_icmp_lt (a := n) (b := 40) (tgt := 11) hx hb (by omega) (by omega) dX0_add_6 (by decide) (fun h => ?_) (fun h => ?_)
  · refine lv_aload_n hx hb dX0_add_11 rfl (lv_at hl 0 rfl) ?_
    refine va_get (D := (dC, dI)) (ci := 0) (v := .ref (ha 1)) (C := RX0) (T := TX0) (N := 8) hx hb hts in_X0 hown hK hP 0 rfl rfl 1 (by decide) (hts _ q22) (fun _ h9 => h9) rfl dX0_add_12 ?_
    refine lv_aload_n hx hb dX0_add_15 rfl (lv_at hl 0 rfl) ?_
    refine va_get (D := (dC, dI)) (ci := 0) (v := .int (nI n)) (C := RX0) (T := TX0) (N := 8) hx hb hts in_X0 hown hK hP 0 rfl rfl 0 (by decide) (hts _ q21) (fun _ h9 => h9) rfl dX0_add_16 ?_
    refine lv_iload_n hx hb dX0_add_19 rfl (lv_at hl 1 rfl) ?_
    refine lv_sipush (v := nI 255) hx hb dX0_add_20 (by decide) ?_
    refine lv_iand hx hb dX0_add_23 ?_
    refine is_ti (nI (v % 256)) (is_255 hv) ?_
    refine is_iast (f := fb) hx hb hK hP hD hS 1 0 rfl rfl (by omega) (by decide) dX0_add_24 (fun H locs hP hD hS => ?_)
    have hP : va_P (dC, dI) is_cl (is_XW ha da (nI n, upd fb n (nI (v % 256)), so, fl, st, fo, fc, dp)) H := hP
    have hD : va_D A (is_XW ha da (nI n, upd fb n (nI (v % 256)), so, fl, st, fo, fc, dp)) := hD
    refine lv_aload_n hx hb dX0_add_25 rfl (lv_at hl 0 rfl) ?_
    refine lv_dup hx hb dX0_add_26 rfl ?_
    refine va_get (D := (dC, dI)) (ci := 0) (v := .int (nI n)) (C := RX0) (T := TX0) (N := 8) hx hb hts in_X0 hown hK hP 0 rfl rfl 0 (by decide) (hts _ q21) (fun _ h9 => h9) rfl dX0_add_27 ?_
    refine lv_iconst (v := nI 1) hx hb dX0_add_30 (by decide) ?_
    refine lv_iadd hx hb dX0_add_31 ?_
    refine is_ti (nI (n + 1)) (nI_add n 1) ?_
    refine va_put (D := (dC, dI)) (ci := 0) (v := .int (nI (n + 1))) (ty := .int) (C := RX0) (T := TX0) (N := 8) hx hb hts in_X0 tyX0 tyX0_ok nmX0 hown hK hP hD hS 0 rfl rfl 0 (by decide) (hts _ q21) (fun _ h9 => h9) rfl (by decide +kernel) rfl rfl (Nat.le_of_ble_eq_true rfl) dX0_add_32 (fun H locs hP hD hS => ?_)
    have hP : va_P (dC, dI) is_cl (is_XW ha da (nI (n + 1), upd fb n (nI (v % 256)), so, fl, st, fo, fc, dp)) H := hP
    have hD : va_D A (is_XW ha da (nI (n + 1), upd fb n (nI (v % 256)), so, fl, st, fo, fc, dp)) := hD
    refine lv_aload_n hx hb dX0_add_35 rfl (lv_at hl 0 rfl) ?_
    refine lv_iconst (v := nI 0) hx hb dX0_add_36 (by decide) ?_
    refine va_put (D := (dC, dI)) (ci := 0) (v := .int (nI 0)) (ty := .boolean) (C := RX0) (T := TX0) (N := 8) hx hb hts in_X0 tyX0 tyX0_ok nmX0 hown hK hP hD hS 0 rfl rfl 2 (by decide) (hts _ q23) (fun _ h9 => h9) rfl (by decide +kernel) rfl rfl (Nat.le_of_ble_eq_true rfl) dX0_add_37 (fun H locs hP hD hS => ?_)
    have hP : va_P (dC, dI) is_cl (is_XW ha da (nI (n + 1), upd fb n (nI (v % 256)), nI 0, fl, st, fo, fc, dp)) H := hP
    have hD : va_D A (is_XW ha da (nI (n + 1), upd fb n (nI (v % 256)), nI 0, fl, st, fo, fc, dp)) := hD
    refine lv_aload_n hx hb dX0_add_40 rfl (lv_at hl 0 rfl) ?_
    refine va_get (D := (dC, dI)) (ci := 0) (v := .int (nI (n + 1))) (C := RX0) (T := TX0) (N := 8) hx hb hts in_X0 hown hK hP 0 rfl rfl 0 (by decide) (hts _ q21) (fun _ h9 => h9) rfl dX0_add_41 ?_
    exact W.iret (v := nI (n + 1)) hx hb hr (fun t ht hW => ⟨⟨nI (n + 1), (nI (n + 1), upd fb n (nI (v % 256)), nI 0, fl, st, fo, fc, dp), rfl, Or.inl ⟨h, rfl, rfl⟩, by rw [ht]; exact hP, va_K.moved hW.alike hK, hD⟩, hS.F ht⟩) hS.2.2 dX0_add_44
  · refine lv_iconst (v := (-1)) hx hb dX0_add_9 (by decide) ?_
    exact W.iret (v := -1) hx hb hr (fun t ht hW => ⟨⟨-1, (nI n, fb, so, fl, st, fo, fc, dp), rfl, Or.inr ⟨by omega, rfl, rfl⟩, by rw [ht]; exact hP, va_K.moved hW.alike hK, hD⟩, hS.F ht⟩) hS.2.2 dX0_add_10
set_option maxHeartbeats 4000000 in
set_option maxRecDepth 100000 in
/-- drop(number), no basket of that number -/
theorem metX0_dropN (l : Launch) (dC : Nat → ClassId) (dI : Nat → Nat → Nat) (ha : Nat → Nat) (da : Nat → ClassId) (sz : Nat) (n : Nat) (fb : Nat → Int32) (so : Int32) (fl : Nat → Int64) (st : Int32) (fo : Nat → Int64) (fc : Nat → Int32) (dp : Int32) (hn : n ≤ 40) (x : Int32) (hx0 : x < 0 ∨ nI n ≤ x) : Met l yX0_drop (ws_ yX0_drop cX0_drop 3 (some .int)) ({ frames := 0, cells := 0, slots := 0, locals := 0 }) (is_P dC dI (is_XT da) (is_XW ha da (nI n, fb, so, fl, st, fo, fc, dp)) sz [.ref (ha 0), .int x]) (va_Qi (fun (r : Int32) (u' : is_US) => r = -1 ∧ u' = (nI n, fb, so, fl, st, fo, fc, dp)) (is_B dC dI (is_XT da) (is_XW ha da) (va_A (is_XW ha da (nI n, fb, so, fl, st, fo, fc, dp)) sz)) (va_A (is_XW ha da (nI n, fb, so, fl, st, fo, fc, dp)) sz)) 0 0 (va_A (is_XW ha da (nI n, fb, so, fl, st, fo, fc, dp)) sz) := by
  refine Met.ofW (cc := cX0_drop) (maxL := 3) (ret := (some .int)) (by decide) rfl ?_
  intro p e s m args below meth c s₁ B hml hv
  obtain ⟨rfl, hsz, hP, hK, hD0⟩ := hv
  have hx := B.exec
  have hb := B.bytes
  have hr := B.returns
  have hts := atoms_spec (ws := (ws_ yX0_drop cX0_drop 3 (some .int))) B.pre
  have hts : ∀ w ∈ lw_all, w.before _ s = true := fun w h => hts w (List.mem_cons_of_mem _ h)
  have hown : s.vm.findClass RX0 = some m.cls := findClass_of_methodNamed B.named
  have hlocks := B.notSynchronized
  subst hsz
  have hD := hD0.self (sz := s.heap.size)
  generalize hAe : va_A (is_XW ha da (nI n, fb, so, fl, st, fo, fc, dp)) s.heap.size = A at hD ⊢
  have hA : ∀ q : Nat, s.heap.size ≤ q → A q := fun q h => by rw [← hAe]; exact Or.inr h
  have hS : va_S A s.heap s.heap [] := va_S.rf
  have hl := lv_entry ([.ref (ha 0), .int x]) (n := 3) (Nat.le_of_ble_eq_true rfl)
  rw [lg_entry_eq]
  generalize (lg_sl ([.ref (ha 0), .int x]) ++ List.replicate (3 - (lg_sl ([.ref (ha 0), .int x])).length) Slot.unset).toArray = ls at hl ⊢
  have hl : lv_has ls 3 [(0, .ref (ha 0)), (1, .int x)] := hl
  refine lv_iload_n hx hb dX0_drop_0 rfl (lv_at hl 1 rfl) ?_
  refine lv_if_lt (tgt := 12) hx hb dX0_drop_1 (by decide) (fun h => ?_) (fun h => ?_)
  · refine lv_iconst (v := (-1)) hx hb dX0_drop_12 (by decide) ?_
    exact W.iret (v := -1) hx hb hr (fun t ht hW => ⟨⟨-1, (nI n, fb, so, fl, st, fo, fc, dp), rfl, ⟨rfl, rfl⟩, by rw [ht]; exact hP, va_K.moved hW.alike hK, hD⟩, hS.F ht⟩) hS.2.2 dX0_drop_13
  · refine lv_iload_n hx hb dX0_drop_4 rfl (lv_at hl 1 rfl) ?_
    refine lv_aload_n hx hb dX0_drop_5 rfl (lv_at hl 0 rfl) ?_
    refine va_get (D := (dC, dI)) (ci := 0) (v := .int (nI n)) (C := RX0) (T := TX0) (N := 8) hx hb hts in_X0 hown hK hP 0 rfl rfl 0 (by decide) (hts _ q21) (fun _ h9 => h9) rfl dX0_drop_6 ?_
    refine lv_icmp_lt (tgt := 14) hx hb dX0_drop_9 (by decide) (fun h2 => ?_) (fun h2 => ?_)
    · exact absurd h2 (by rcases hx0 with q | q; exact absurd q h; intro z; rw [Int32.lt_iff_toInt_lt] at z; rw [Int32.le_iff_toInt_le] at q; omega)
    · refine lv_iconst (v := (-1)) hx hb dX0_drop_12 (by decide) ?_
      exact W.iret (v := -1) hx hb hr (fun t ht hW => ⟨⟨-1, (nI n, fb, so, fl, st, fo, fc, dp), rfl, ⟨rfl, rfl⟩, by rw [ht]; exact hP, va_K.moved hW.alike hK, hD⟩, hS.F ht⟩) hS.2.2 dX0_drop_13
set_option maxHeartbeats 4000000 in
set_option maxRecDepth 100000 in
/-- drop(number) -/
theorem metX0_drop (l : Launch) (dC : Nat → ClassId) (dI : Nat → Nat → Nat) (ha : Nat → Nat) (da : Nat → ClassId) (sz : Nat) (n : Nat) (fb : Nat → Int32) (so : Int32) (fl : Nat → Int64) (st : Int32) (fo : Nat → Int64) (fc : Nat → Int32) (dp : Int32) (hn : n ≤ 40) (j : Nat) (hj : j < n) : Met l yX0_drop (ws_ yX0_drop cX0_drop 3 (some .int)) ({ frames := 0, cells := 0, slots := 0, locals := 0 }) (is_P dC dI (is_XT da) (is_XW ha da (nI n, fb, so, fl, st, fo, fc, dp)) sz [.ref (ha 0), .int (nI j)]) (va_Qi (fun (r : Int32) (u' : is_US) => r = nI (n - 1) ∧ u' = (nI (n - 1), is_dr fb j (n - 1), nI 0, fl, st, fo, fc, dp)) (is_B dC dI (is_XT da) (is_XW ha da) (va_A (is_XW ha da (nI n, fb, so, fl, st, fo, fc, dp)) sz)) (va_A (is_XW ha da (nI n, fb, so, fl, st, fo, fc, dp)) sz)) 0 0 (va_A (is_XW ha da (nI n, fb, so, fl, st, fo, fc, dp)) sz) := by
  refine Met.ofW (cc := cX0_drop) (maxL := 3) (ret := (some .int)) (by decide) rfl ?_
  intro p e s m args below meth c s₁ B hml hv
  obtain ⟨rfl, hsz, hP, hK, hD0⟩ := hv
  have hx := B.exec
  have hb := B.bytes
  have hr := B.returns
  have hts := atoms_spec (ws := (ws_ yX0_drop cX0_drop 3 (some .int))) B.pre
  have hts : ∀ w ∈ lw_all, w.before _ s = true := fun w h => hts w (List.mem_cons_of_mem _ h)
  have hown : s.vm.findClass RX0 = some m.cls := findClass_of_methodNamed B.named
  have hlocks := B.notSynchronized
  subst hsz
  have hD := hD0.self (sz := s.heap.size)
  generalize hAe : va_A (is_XW ha da (nI n, fb, so, fl, st, fo, fc, dp)) s.heap.size = A at hD ⊢
  have hA : ∀ q : Nat, s.heap.size ≤ q → A q := fun q h => by rw [← hAe]; exact Or.inr h
  have hS : va_S A s.heap s.heap [] := va_S.rf
  have hl := lv_entry ([.ref (ha 0), .int (nI j)]) (n := 3) (Nat.le_of_ble_eq_true rfl)
  rw [lg_entry_eq]
  generalize (lg_sl ([.ref (ha 0), .int (nI j)]) ++ List.replicate (3 - (lg_sl ([.ref (ha 0), .int (nI j)])).length) Slot.unset).toArray = ls at hl ⊢
  have hl : lv_has ls 3 [(0, .ref (ha 0)), (1, .int (nI j))] := hl
  refine lv_iload_n hx hb dX0_drop_0 rfl (lv_at hl 1 rfl) ?_
  refine is_if_lt (tgt := 12) hx hb (by omega) dX0_drop_1 (by decide) ?_
  refine lv_iload_n hx hb dX0_drop_4 rfl (lv_at hl 1 rfl) ?_
  refine lv_aload_n hx hb dX0_drop_5 rfl (lv_at hl 0 rfl) ?_
  refine va_get (D := (dC, dI)) (ci := 0) (v := .int (nI n)) (C := RX0) (T := TX0) (N := 8) hx hb hts in_X0 hown hK hP 0 rfl rfl 0 (by decide) (hts _ q21) (fun _ h9 => h9) rfl dX0_drop_6 ?_
  refine is_icmp_lt (a := j) (b := n) (tgt := 14) hx hb (by omega) (by omega) dX0_drop_9 (by decide) (fun h => ?_) (fun h => ?_)
  · refine lv_aload_n hx hb dX0_drop_14 rfl (lv_at hl 0 rfl) ?_
    refine lv_dup hx hb dX0_drop_15 rfl ?_
    refine va_get (D := (dC, dI)) (ci := 0) (v := .int (nI n)) (C := RX0) (T := TX0) (N := 8) hx hb hts in_X0 hown hK hP 0 rfl rfl 0 (by decide) (hts _ q21) (fun _ h9 => h9) rfl dX0_drop_16 ?_
    refine lv_iconst (v := nI 1) hx hb dX0_drop_19 (by decide) ?_
    refine lv_isub hx hb dX0_drop_20 ?_
    refine is_ti (nI (n - 1)) (pk_sub (by omega)) ?_
    refine va_put (D := (dC, dI)) (ci := 0) (v := .int (nI (n - 1))) (ty := .int) (C := RX0) (T := TX0) (N := 8) hx hb hts in_X0 tyX0 tyX0_ok nmX0 hown hK hP hD hS 0 rfl rfl 0 (by decide) (hts _ q21) (fun _ h9 => h9) rfl (by decide +kernel) rfl rfl (Nat.le_of_ble_eq_true rfl) dX0_drop_21 (fun H locs hP hD hS => ?_)
    have hP : va_P (dC, dI) is_cl (is_XW ha da (nI (n - 1), fb, so, fl, st, fo, fc, dp)) H := hP
    have hD : va_D A (is_XW ha da (nI (n - 1), fb, so, fl, st, fo, fc, dp)) := hD
    refine lv_iload_n hx hb dX0_drop_24 rfl (lv_at hl 1 rfl) ?_
    refine lv_istore_n (lv' := [(2, .int (nI j)), (0, .ref (ha 0)), (1, .int (nI j))]) hx hb dX0_drop_25 rfl hl (by decide) rfl (fun ls hl => ?_)
    have lo : ∀ (j2 : Nat) (k : Nat) (fb1 : Nat → Int32), n - 1 < k + j2 → k ≤ n - 1 → j ≤ k → fb1 = is_dr fb j k → ∀ (H : Heap) (locs : List Loc) (ls : Array Slot), va_P (dC, dI) is_cl (is_XW ha da (nI (n - 1), fb1, so, fl, st, fo, fc, dp)) H → va_D A (is_XW ha da (nI (n - 1), fb1, so, fl, st, fo, fc, dp)) → va_S A s.heap H locs → lv_has ls 3 [(2, .int (nI k)), (0, .ref (ha 0)), (1, .int (nI j))] → W p l e (headSpec (ws_ yX0_drop cX0_drop 3 (some .int)) ({ frames := 0, cells := 0, slots := 0, locals := 0 })).room s m ([.ref (ha 0), .int (nI j)] : List Value).toArray below meth c H locs 0 0 (MQ below (va_Qi (fun (r : Int32) (u' : is_US) => r = nI (n - 1) ∧ u' = (nI (n - 1), is_dr fb j (n - 1), nI 0, fl, st, fo, fc, dp)) (is_B dC dI (is_XT da) (is_XW ha da) A) A) ([.ref (ha 0), .int (nI j)] : List Value).toArray s 0 0 A) (F0 m 26 ls []) := by
      intro j2
      induction j2 with
      | zero => intro k fb1 h1 h2 h3 h4; omega
      | succ j2 ihlo =>
        intro k fb1 h1 h2 h3 h4 H locs ls hP hD hS hl
        refine lv_iload_n hx hb dX0_drop_26 rfl (lv_at hl 0 rfl) ?_
        refine lv_aload_n hx hb dX0_drop_27 rfl (lv_at hl 1 rfl) ?_
        refine va_get (D := (dC, dI)) (ci := 0) (v := .int (nI (n - 1))) (C := RX0) (T := TX0) (N := 8) hx hb hts in_X0 hown hK hP 0 rfl rfl 0 (by decide) (hts _ q21) (fun _ h9 => h9) rfl dX0_drop_28 ?_
        refine is_icmp_ge (a := k) (b := (n - 1)) (tgt := 54) hx hb (by omega) (by omega) dX0_drop_31 (by decide) (fun hk => ?_) (fun hk => ?_)
        · refine lv_aload_n hx hb dX0_drop_54 rfl (lv_at hl 1 rfl) ?_
          refine lv_iconst (v := nI 0) hx hb dX0_drop_55 (by decide) ?_
          refine va_put (D := (dC, dI)) (ci := 0) (v := .int (nI 0)) (ty := .boolean) (C := RX0) (T := TX0) (N := 8) hx hb hts in_X0 tyX0 tyX0_ok nmX0 hown hK hP hD hS 0 rfl rfl 2 (by decide) (hts _ q23) (fun _ h9 => h9) rfl (by decide +kernel) rfl rfl (Nat.le_of_ble_eq_true rfl) dX0_drop_56 (fun H locs hP hD hS => ?_)
          have hP : va_P (dC, dI) is_cl (is_XW ha da (nI (n - 1), fb1, nI 0, fl, st, fo, fc, dp)) H := hP
          have hD : va_D A (is_XW ha da (nI (n - 1), fb1, nI 0, fl, st, fo, fc, dp)) := hD
          refine lv_aload_n hx hb dX0_drop_59 rfl (lv_at hl 1 rfl) ?_
          refine va_get (D := (dC, dI)) (ci := 0) (v := .int (nI (n - 1))) (C := RX0) (T := TX0) (N := 8) hx hb hts in_X0 hown hK hP 0 rfl rfl 0 (by decide) (hts _ q21) (fun _ h9 => h9) rfl dX0_drop_60 ?_
          exact W.iret (v := nI (n - 1)) hx hb hr (fun t ht hW => ⟨⟨nI (n - 1), (nI (n - 1), fb1, nI 0, fl, st, fo, fc, dp), rfl, ⟨rfl, by rw [h4, show k = n - 1 by omega]⟩, by rw [ht]; exact hP, va_K.moved hW.alike hK, hD⟩, hS.F ht⟩) hS.2.2 dX0_drop_63
        · refine lv_aload_n hx hb dX0_drop_34 rfl (lv_at hl 1 rfl) ?_
          refine va_get (D := (dC, dI)) (ci := 0) (v := .ref (ha 1)) (C := RX0) (T := TX0) (N := 8) hx hb hts in_X0 hown hK hP 0 rfl rfl 1 (by decide) (hts _ q22) (fun _ h9 => h9) rfl dX0_drop_35 ?_
          refine lv_iload_n hx hb dX0_drop_38 rfl (lv_at hl 0 rfl) ?_
          refine lv_aload_n hx hb dX0_drop_39 rfl (lv_at hl 1 rfl) ?_
          refine va_get (D := (dC, dI)) (ci := 0) (v := .ref (ha 1)) (C := RX0) (T := TX0) (N := 8) hx hb hts in_X0 hown hK hP 0 rfl rfl 1 (by decide) (hts _ q22) (fun _ h9 => h9) rfl dX0_drop_40 ?_
          refine lv_iload_n hx hb dX0_drop_43 rfl (lv_at hl 0 rfl) ?_
          refine lv_iconst (v := nI 1) hx hb dX0_drop_44 (by decide) ?_
          refine lv_iadd hx hb dX0_drop_45 ?_
          refine is_ti (nI (k + 1)) (nI_add k 1) ?_
          refine is_iald (f := fb1) hx hb hK hP 1 0 rfl rfl (by omega) (by decide) dX0_drop_46 ?_
          refine is_ti (fb (k + 1)) (by rw [h4, is_dr_n]) ?_
          refine is_iast (f := fb1) hx hb hK hP hD hS 1 0 rfl rfl (by omega) (by decide) dX0_drop_47 (fun H locs hP hD hS => ?_)
          have hP : va_P (dC, dI) is_cl (is_XW ha da (nI (n - 1), upd fb1 k (fb (k + 1)), so, fl, st, fo, fc, dp)) H := hP
          have hD : va_D A (is_XW ha da (nI (n - 1), upd fb1 k (fb (k + 1)), so, fl, st, fo, fc, dp)) := hD
          refine lv_iinc (v := nI (k + 1)) (lv' := [(2, .int (nI (k + 1))), (0, .ref (ha 0)), (1, .int (nI j))]) hx hb dX0_drop_48 hl (k := 0) rfl (is_inc k) (by decide) rfl (fun ls hl => ?_)
          refine lv_goto (tgt := 26) hx hb dX0_drop_51 (by decide) ?_
          exact ihlo (k + 1) _ (by omega) (by omega) (by omega) (by rw [h4, is_dr_s fb h3]) _ _ _ hP hD hS (lv_sub hl [0, 1, 2] rfl)
    exact lo n j fb (by omega) (by omega) (by omega) (is_dr_0 fb j) _ _ _ hP hD hS (lv_sub hl [0, 1, 2] rfl)
  · omega
set_option maxHeartbeats 4000000 in
set_option maxRecDepth 100000 in
/-- leastLoss() -/
theorem metX0_leastLoss (l : Launch) (dC : Nat → ClassId) (dI : Nat → Nat → Nat) (ha : Nat → Nat) (da : Nat → ClassId) (sz : Nat) (b : Nat → Nat) (n : Nat) (fb : Nat → Int32) (so : Int32) (fl : Nat → Int64) (S : Nat) (fo : Nat → Int64) (fc : Nat → Int32) (dp : Int32) (hn : n ≤ 40) (hLk : is_Lk b n fl) (hS8 : S < 256) (h8 : ∀ k, is_lb (fo 8) k = is_ls b n S k) : Met l yX0_leastLoss (ws_ yX0_leastLoss cX0_leastLoss 4 (some .int)) ({ frames := 1, cells := 0, slots := 0, locals := 23 }) (is_P dC dI (is_XT da) (is_XW ha da (nI n, fb, so, fl, nI S, fo, fc, dp)) sz [.ref (ha 0)]) (va_Qi (fun (r : Int32) (u' : is_US) => r = nI (is_ll b n S 8) ∧ u' = (nI n, fb, so, fl, nI S, fo, fc, dp)) (is_B dC dI (is_XT da) (is_XW ha da) (va_A (is_XW ha da (nI n, fb, so, fl, nI S, fo, fc, dp)) sz)) (va_A (is_XW ha da (nI n, fb, so, fl, nI S, fo, fc, dp)) sz)) 0 0 (va_A (is_XW ha da (nI n, fb, so, fl, nI S, fo, fc, dp)) sz) := by
  refine Met.ofW (cc := cX0_leastLoss) (maxL := 4) (ret := (some .int)) (by decide) rfl ?_
  intro p e s m args below meth c s₁ B hml hv
  obtain ⟨rfl, hsz, hP, hK, hD0⟩ := hv
  have hx := B.exec
  have hb := B.bytes
  have hr := B.returns
  have hts := atoms_spec (ws := (ws_ yX0_leastLoss cX0_leastLoss 4 (some .int))) B.pre
  have hts : ∀ w ∈ lw_all, w.before _ s = true := fun w h => hts w (List.mem_cons_of_mem _ h)
  have hown : s.vm.findClass RX0 = some m.cls := findClass_of_methodNamed B.named
  have hlocks := B.notSynchronized
  subst hsz
  have hD := hD0.self (sz := s.heap.size)
  generalize hAe : va_A (is_XW ha da (nI n, fb, so, fl, nI S, fo, fc, dp)) s.heap.size = A at hD ⊢
  have hA : ∀ q : Nat, s.heap.size ≤ q → A q := fun q h => by rw [← hAe]; exact Or.inr h
  have hS : va_S A s.heap s.heap [] := va_S.rf
  have hl := lv_entry ([.ref (ha 0)]) (n := 4) (Nat.le_of_ble_eq_true rfl)
  rw [lg_entry_eq]
  generalize (lg_sl ([.ref (ha 0)]) ++ List.replicate (4 - (lg_sl ([.ref (ha 0)])).length) Slot.unset).toArray = ls at hl ⊢
  have hl : lv_has ls 4 [(0, .ref (ha 0))] := hl
  refine lv_bipush (v := nI 41) hx hb dX0_leastLoss_0 (by decide) ?_
  refine lv_istore_n (lv' := [(1, .int (nI 41)), (0, .ref (ha 0))]) hx hb dX0_leastLoss_2 rfl hl (by decide) rfl (fun ls hl => ?_)
  refine lv_iconst (v := nI 0) hx hb dX0_leastLoss_3 (by decide) ?_
  refine lv_istore_n (lv' := [(2, .int (nI 0)), (1, .int (nI 41)), (0, .ref (ha 0))]) hx hb dX0_leastLoss_4 rfl hl (by decide) rfl (fun ls hl => ?_)
  have lo : ∀ (j : Nat) (g x : Nat), 8 < g + j → g ≤ 8 → x = is_ll b n S g → ∀ (H : Heap) (locs : List Loc) (ls : Array Slot), va_P (dC, dI) is_cl (is_XW ha da (nI n, fb, so, fl, nI S, fo, fc, dp)) H → va_D A (is_XW ha da (nI n, fb, so, fl, nI S, fo, fc, dp)) → va_S A s.heap H locs → lv_has ls 4 [(2, .int (nI g)), (1, .int (nI x)), (0, .ref (ha 0))] → W p l e (headSpec (ws_ yX0_leastLoss cX0_leastLoss 4 (some .int)) ({ frames := 1, cells := 0, slots := 0, locals := 23 })).room s m ([.ref (ha 0)] : List Value).toArray below meth c H locs 0 0 (MQ below (va_Qi (fun (r : Int32) (u' : is_US) => r = nI (is_ll b n S 8) ∧ u' = (nI n, fb, so, fl, nI S, fo, fc, dp)) (is_B dC dI (is_XT da) (is_XW ha da) A) A) ([.ref (ha 0)] : List Value).toArray s 0 0 A) (F0 m 5 ls []) := by
    intro j
    induction j with
    | zero => intro g x h1 h2 h3; omega
    | succ j ihlo =>
      intro g x h1 h2 h3 H locs ls hP hD hS hl
      have hx41 := (is_ll_spec b n S g).2.2
      refine lv_iload_n hx hb dX0_leastLoss_5 rfl (lv_at hl 0 rfl) ?_
      refine lv_bipush (v := nI 8) hx hb dX0_leastLoss_6 (by decide) ?_
      refine is_icmp_ge (a := g) (b := 8) (tgt := 61) hx hb (by omega) (by omega) dX0_leastLoss_8 (by decide) (fun hg => ?_) (fun hg => ?_)
      · refine lv_iload_n hx hb dX0_leastLoss_61 rfl (lv_at hl 1 rfl) ?_
        exact W.iret (v := nI x) hx hb hr (fun t ht hW => ⟨⟨nI x, (nI n, fb, so, fl, nI S, fo, fc, dp), rfl, ⟨by rw [h3, show g = 8 by omega], rfl⟩, by rw [ht]; exact hP, va_K.moved hW.alike hK, hD⟩, hS.F ht⟩) hS.2.2 dX0_leastLoss_62
      · refine lv_aload_n hx hb dX0_leastLoss_11 rfl (lv_at hl 2 rfl) ?_
        refine va_get (D := (dC, dI)) (ci := 0) (v := .int (nI S)) (C := RX0) (T := TX0) (N := 8) hx hb hts in_X0 hown hK hP 0 rfl rfl 4 (by decide) (hts _ q25) (fun _ h9 => h9) rfl dX0_leastLoss_12 ?_
        refine lv_iload_n hx hb dX0_leastLoss_15 rfl (lv_at hl 0 rfl) ?_
        refine lv_iushr (v := nI (S / 2 ^ g)) hx hb dX0_leastLoss_16 (is_ush (by omega) (by omega)) ?_
        refine lv_iconst (v := nI 1) hx hb dX0_leastLoss_17 (by decide) ?_
        refine lv_iand hx hb dX0_leastLoss_18 ?_
        refine is_ti (nI (is_b1 S g)) (is_a1 _) ?_
        have hb1 := is_b1_lt S g
        refine is_if_ne (a := (is_b1 S g)) (tgt := 55) hx hb (by omega) dX0_leastLoss_19 (by decide) (fun hz => ?_) (fun hz => ?_)
        · refine lv_iinc (v := nI (g + 1)) (lv' := [(2, .int (nI (g + 1))), (1, .int (nI x)), (0, .ref (ha 0))]) hx hb dX0_leastLoss_55 hl (k := 0) rfl (is_inc g) (by decide) rfl (fun ls hl => ?_)
          refine lv_goto (tgt := 5) hx hb dX0_leastLoss_58 (by decide) ?_
          exact ihlo (g + 1) x (by omega) (by omega) (by rw [h3, is_ll_t (by rw [is_b1_tb, decide_eq_true_iff]; omega)]) _ _ _ hP hD hS (lv_sub hl [0, 1, 2] rfl)
        · refine lv_aload_n hx hb dX0_leastLoss_22 rfl (lv_at hl 2 rfl) ?_
          refine va_get (D := (dC, dI)) (ci := 0) (v := .ref (ha 2)) (C := RX0) (T := TX0) (N := 8) hx hb hts in_X0 hown hK hP 0 rfl rfl 3 (by decide) (hts _ q24) (fun _ h9 => h9) rfl dX0_leastLoss_23 ?_
          refine lv_iload_n hx hb dX0_leastLoss_26 rfl (lv_at hl 0 rfl) ?_
          refine is_lald (f := fl) hx hb hK hP 2 1 rfl rfl (by omega) (by decide) dX0_leastLoss_27 ?_
          refine lv_aload_n hx hb dX0_leastLoss_28 rfl (lv_at hl 2 rfl) ?_
          refine va_get (D := (dC, dI)) (ci := 0) (v := .ref (ha 3)) (C := RX0) (T := TX0) (N := 8) hx hb hts in_X0 hown hK hP 0 rfl rfl 5 (by decide) (hts _ q26) (fun _ h9 => h9) rfl dX0_leastLoss_29 ?_
          refine lv_bipush (v := nI 8) hx hb dX0_leastLoss_32 (by decide) ?_
          refine is_lald (f := fo) hx hb hK hP 3 2 rfl rfl (by omega) (by decide) dX0_leastLoss_34 ?_
          refine lv_ldc2 (v := (-1)) hx hb hown (hts _ q95) dX0_leastLoss_35 ?_
          refine lv_lxor hx hb dX0_leastLoss_38 ?_
          refine lv_land hx hb dX0_leastLoss_39 ?_
          refine is_cSi (As := [.long ((fl g) &&& ((fo 8) ^^^ (-1)))]) (rest := []) ⟨hx, hb, hml, hown, hts⟩ (metX0_ones l _) (va_cwS 1 hts (lw_S q68 q69 q11 q70) rfl rfl rfl (by decide +kernel) ⟨Nat.le_of_ble_eq_true rfl, Nat.le_of_ble_eq_true rfl⟩) hP hS rfl hl.1 rfl (Nat.le_of_ble_eq_true rfl) dX0_leastLoss_40 ⟨Nat.zero_le _, Nat.zero_le _⟩ (fun r H locs hw hP hS => ?_)
          subst hw
          refine is_ti (nI (is_lo b n S g)) (by rw [is_lo_ct (hLk g (by omega)) h8]) ?_
          have hlo := is_lo_le b n S g
          refine lv_istore_n (lv' := [(3, .int (nI (is_lo b n S g))), (2, .int (nI g)), (1, .int (nI x)), (0, .ref (ha 0))]) hx hb dX0_leastLoss_43 rfl hl (by decide) rfl (fun ls hl => ?_)
          refine lv_iload_n hx hb dX0_leastLoss_44 rfl (lv_at hl 0 rfl) ?_
          refine lv_iload_n hx hb dX0_leastLoss_45 rfl (lv_at hl 2 rfl) ?_
          refine is_icmp_ge (a := (is_lo b n S g)) (b := x) (tgt := 53) hx hb (by omega) (by omega) dX0_leastLoss_46 (by decide) (fun hc => ?_) (fun hc => ?_)
          · refine lv_iload_n hx hb dX0_leastLoss_53 rfl (lv_at hl 2 rfl) ?_
            refine lv_istore_n (lv' := [(1, .int (nI x)), (3, .int (nI (is_lo b n S g))), (2, .int (nI g)), (0, .ref (ha 0))]) hx hb dX0_leastLoss_54 rfl hl (by decide) rfl (fun ls hl => ?_)
            refine lv_iinc (v := nI (g + 1)) (lv' := [(2, .int (nI (g + 1))), (1, .int (nI x)), (3, .int (nI (is_lo b n S g))), (0, .ref (ha 0))]) hx hb dX0_leastLoss_55 hl (k := 2) rfl (is_inc g) (by decide) rfl (fun ls hl => ?_)
            refine lv_goto (tgt := 5) hx hb dX0_leastLoss_58 (by decide) ?_
            exact ihlo (g + 1) x (by omega) (by omega) (by rw [is_ll_f (is_b1_0.mp hz), ← h3, if_neg (by omega)]) _ _ _ hP hD hS (lv_sub hl [0, 1, 3] rfl)
          · refine lv_iload_n hx hb dX0_leastLoss_49 rfl (lv_at hl 0 rfl) ?_
            refine lv_goto (tgt := 54) hx hb dX0_leastLoss_50 (by decide) ?_
            refine lv_istore_n (lv' := [(1, .int (nI (is_lo b n S g))), (3, .int (nI (is_lo b n S g))), (2, .int (nI g)), (0, .ref (ha 0))]) hx hb dX0_leastLoss_54 rfl hl (by decide) rfl (fun ls hl => ?_)
            refine lv_iinc (v := nI (g + 1)) (lv' := [(2, .int (nI (g + 1))), (1, .int (nI (is_lo b n S g))), (3, .int (nI (is_lo b n S g))), (0, .ref (ha 0))]) hx hb dX0_leastLoss_55 hl (k := 2) rfl (is_inc g) (by decide) rfl (fun ls hl => ?_)
            refine lv_goto (tgt := 5) hx hb dX0_leastLoss_58 (by decide) ?_
            exact ihlo (g + 1) (is_lo b n S g) (by omega) (by omega) (by rw [is_ll_f (is_b1_0.mp hz), ← h3, if_pos (by omega)]) _ _ _ hP hD hS (lv_sub hl [0, 1, 3] rfl)
  exact lo 9 0 41 (by omega) (by omega) rfl _ _ _ hP hD hS (lv_sub hl [0, 1, 2] rfl)
set_option maxHeartbeats 4000000 in
set_option maxRecDepth 100000 in
/-- closure(set) -/
theorem metX0_closure (l : Launch) (dC : Nat → ClassId) (dI : Nat → Nat → Nat) (ha : Nat → Nat) (da : Nat → ClassId) (sz : Nat) (b : Nat → Nat) (n : Nat) (fb : Nat → Int32) (so : Int32) (fl : Nat → Int64) (st : Int32) (fo : Nat → Int64) (fc : Nat → Int32) (dp : Int32) (hn : n ≤ 40) (hbk : is_Bk fb n b) (hso : is_So b n so fl) (v : Nat) (hv : v < 2 ^ 32) : Met l yX0_closure (ws_ yX0_closure cX0_closure 6 (some .int)) ({ frames := 2, cells := 0, slots := 0, locals := 46 }) (is_P dC dI (is_XT da) (is_XW ha da (nI n, fb, so, fl, st, fo, fc, dp)) sz [.ref (ha 0), .int (nI v)]) (va_Qi (fun (r : Int32) (u' : is_US) => r = nI (is_clo b n (v % 256) 8) ∧ ∃ fl' : Nat → Int64, is_Lk b n fl' ∧ u' = (nI n, fb, nI 1, fl', st, fo, fc, dp)) (is_B dC dI (is_XT da) (is_XW ha da) (va_A (is_XW ha da (nI n, fb, so, fl, st, fo, fc, dp)) sz)) (va_A (is_XW ha da (nI n, fb, so, fl, st, fo, fc, dp)) sz)) 0 0 (va_A (is_XW ha da (nI n, fb, so, fl, st, fo, fc, dp)) sz) := by
  refine Met.ofW (cc := cX0_closure) (maxL := 6) (ret := (some .int)) (by decide) rfl ?_
  intro p e s m args below meth c s₁ B hml hv
  obtain ⟨rfl, hsz, hP, hK, hD0⟩ := hv
  have hx := B.exec
  have hb := B.bytes
  have hr := B.returns
  have hts := atoms_spec (ws := (ws_ yX0_closure cX0_closure 6 (some .int))) B.pre
  have hts : ∀ w ∈ lw_all, w.before _ s = true := fun w h => hts w (List.mem_cons_of_mem _ h)
  have hown : s.vm.findClass RX0 = some m.cls := findClass_of_methodNamed B.named
  have hlocks := B.notSynchronized
  subst hsz
  have hD := hD0.self (sz := s.heap.size)
  generalize hAe : va_A (is_XW ha da (nI n, fb, so, fl, st, fo, fc, dp)) s.heap.size = A at hD ⊢
  have hA : ∀ q : Nat, s.heap.size ≤ q → A q := fun q h => by rw [← hAe]; exact Or.inr h
  have hS : va_S A s.heap s.heap [] := va_S.rf
  have hl := lv_entry ([.ref (ha 0), .int (nI v)]) (n := 6) (Nat.le_of_ble_eq_true rfl)
  rw [lg_entry_eq]
  generalize (lg_sl ([.ref (ha 0), .int (nI v)]) ++ List.replicate (6 - (lg_sl ([.ref (ha 0), .int (nI v)])).length) Slot.unset).toArray = ls at hl ⊢
  have hl : lv_has ls 6 [(0, .ref (ha 0)), (1, .int (nI v))] := hl
  refine lv_aload_n hx hb dX0_closure_0 rfl (lv_at hl 0 rfl) ?_
  refine lv_iload_n hx hb dX0_closure_1 rfl (lv_at hl 1 rfl) ?_
  refine is_cVl (Wd := is_XW ha da) (u := (nI n, fb, so, fl, st, fo, fc, dp)) (As := [.int (nI v)]) (rest := []) (b := ha 0) ⟨hx, hb, hml, hown, hts⟩ (metX0_lostBy l dC dI ha da _ b n fb so fl st fo fc dp hn hbk hso v hv) (cwV 1 hts (lw_V q60 q62 qs0 q11 q63) rfl rfl rfl (by decide +kernel) ⟨Nat.le_of_ble_eq_true rfl, Nat.le_of_ble_eq_true rfl⟩) (va_recv hK hP (ci := 0) (q0 := 0) rfl rfl) hK hP hD hS hA rfl hl.1 rfl (Nat.le_of_ble_eq_true rfl) dX0_closure_2 ⟨Nat.zero_le _, Nat.zero_le _⟩ (fun r u' H locs hw hP hD hS => ?_)
  obtain ⟨hr1, fl', hLk, rfl⟩ := hw
  have hP : va_P (dC, dI) is_cl (is_XW ha da (nI n, fb, nI 1, fl', st, fo, fc, dp)) H := hP
  have hD : va_D A (is_XW ha da (nI n, fb, nI 1, fl', st, fo, fc, dp)) := hD
  refine lv_lstore_n (lv' := [(2, .long r), (0, .ref (ha 0)), (1, .int (nI v))]) hx hb dX0_closure_5 rfl hl (by decide) rfl (fun ls hl => ?_)
  refine lv_iload_n hx hb dX0_closure_6 rfl (lv_at hl 2 rfl) ?_
  refine lv_sipush (v := nI 255) hx hb dX0_closure_7 (by decide) ?_
  refine lv_iand hx hb dX0_closure_10 ?_
  refine is_ti (nI (v % 256)) (is_255 hv) ?_
  refine lv_istore (lv' := [(4, .int (nI (v % 256))), (2, .long r), (0, .ref (ha 0)), (1, .int (nI v))]) hx hb dX0_closure_11 hl (by decide) rfl (fun ls hl => ?_)
  refine lv_iconst (v := nI 0) hx hb dX0_closure_13 (by decide) ?_
  refine lv_istore (lv' := [(5, .int (nI 0)), (4, .int (nI (v % 256))), (2, .long r), (0, .ref (ha 0)), (1, .int (nI v))]) hx hb dX0_closure_14 hl (by decide) rfl (fun ls hl => ?_)
  have lo : ∀ (j : Nat) (g x : Nat), 8 < g + j → g ≤ 8 → x = is_clo b n (v % 256) g → ∀ (H : Heap) (locs : List Loc) (ls : Array Slot), va_P (dC, dI) is_cl (is_XW ha da (nI n, fb, nI 1, fl', st, fo, fc, dp)) H → va_D A (is_XW ha da (nI n, fb, nI 1, fl', st, fo, fc, dp)) → va_S A s.heap H locs → lv_has ls 6 [(5, .int (nI g)), (4, .int (nI x)), (2, .long r), (0, .ref (ha 0)), (1, .int (nI v))] → W p l e (headSpec (ws_ yX0_closure cX0_closure 6 (some .int)) ({ frames := 2, cells := 0, slots := 0, locals := 46 })).room s m ([.ref (ha 0), .int (nI v)] : List Value).toArray below meth c H locs 0 0 (MQ below (va_Qi (fun (r : Int32) (u' : is_US) => r = nI (is_clo b n (v % 256) 8) ∧ ∃ fl' : Nat → Int64, is_Lk b n fl' ∧ u' = (nI n, fb, nI 1, fl', st, fo, fc, dp)) (is_B dC dI (is_XT da) (is_XW ha da) A) A) ([.ref (ha 0), .int (nI v)] : List Value).toArray s 0 0 A) (F0 m 16 ls []) := by
    intro j
    induction j with
    | zero => intro g x h1 h2 h3; omega
    | succ j ihlo =>
      intro g x h1 h2 h3 H locs ls hP hD hS hl
      refine lv_iload hx hb dX0_closure_16 (lv_at hl 0 rfl) ?_
      refine lv_bipush (v := nI 8) hx hb dX0_closure_18 (by decide) ?_
      refine is_icmp_ge (a := g) (b := 8) (tgt := 60) hx hb (by omega) (by omega) dX0_closure_20 (by decide) (fun hg => ?_) (fun hg => ?_)
      · refine lv_iload hx hb dX0_closure_60 (lv_at hl 1 rfl) ?_
        exact W.iret (v := nI x) hx hb hr (fun t ht hW => ⟨⟨nI x, (nI n, fb, nI 1, fl', st, fo, fc, dp), rfl, ⟨by rw [h3, show g = 8 by omega], fl', hLk, rfl⟩, by rw [ht]; exact hP, va_K.moved hW.alike hK, hD⟩, hS.F ht⟩) hS.2.2 dX0_closure_62
      · refine lv_iload hx hb dX0_closure_23 (lv_at hl 1 rfl) ?_
        refine lv_aload_n hx hb dX0_closure_25 rfl (lv_at hl 3 rfl) ?_
        refine va_get (D := (dC, dI)) (ci := 0) (v := .ref (ha 2)) (C := RX0) (T := TX0) (N := 8) hx hb hts in_X0 hown hK hP 0 rfl rfl 3 (by decide) (hts _ q24) (fun _ h9 => h9) rfl dX0_closure_26 ?_
        refine lv_iload hx hb dX0_closure_29 (lv_at hl 0 rfl) ?_
        refine is_lald (f := fl') hx hb hK hP 2 1 rfl rfl (by omega) (by decide) dX0_closure_31 ?_
        refine lv_lload_n hx hb dX0_closure_32 rfl (lv_at hl 2 rfl) ?_
        refine lv_ldc2 (v := (-1)) hx hb hown (hts _ q95) dX0_closure_33 ?_
        refine lv_lxor hx hb dX0_closure_36 ?_
        refine lv_land hx hb dX0_closure_37 ?_
        refine lv_lconst (v := 0) hx hb dX0_closure_38 (by decide) ?_
        refine W.lcmp hx hb dX0_closure_39 ?_
        refine lv_if_ne (tgt := 50) hx hb dX0_closure_40 (by decide) (fun hz => ?_) (fun hz => ?_)
        · refine lv_iconst (v := nI 0) hx hb dX0_closure_50 (by decide) ?_
          refine lv_ior hx hb dX0_closure_51 ?_
          refine is_ti (nI x) (is_or0 x) ?_
          refine lv_istore (lv' := [(4, .int (nI x)), (5, .int (nI g)), (2, .long r), (0, .ref (ha 0)), (1, .int (nI v))]) hx hb dX0_closure_52 hl (by decide) rfl (fun ls hl => ?_)
          refine lv_iinc (v := nI (g + 1)) (lv' := [(5, .int (nI (g + 1))), (4, .int (nI x)), (2, .long r), (0, .ref (ha 0)), (1, .int (nI v))]) hx hb dX0_closure_54 hl (k := 1) rfl (is_inc g) (by decide) rfl (fun ls hl => ?_)
          refine lv_goto (tgt := 16) hx hb dX0_closure_57 (by decide) ?_
          exact ihlo (g + 1) x (by omega) (by omega) (by rw [h3, is_clo_f (fun q => hz (is_cmp0.mpr ((is_cz hn (hLk g (by omega)) hr1).mpr q)))]) _ _ _ hP hD hS (lv_sub hl [0, 1, 2, 3, 4] rfl)
        · refine lv_iconst (v := nI 1) hx hb dX0_closure_43 (by decide) ?_
          refine lv_iload hx hb dX0_closure_44 (lv_at hl 0 rfl) ?_
          refine lv_ishl hx hb dX0_closure_46 ?_
          refine is_ti (nI (2 ^ g)) (is_shl1 g (by omega)) ?_
          refine lv_goto (tgt := 51) hx hb dX0_closure_47 (by decide) ?_
          refine lv_ior hx hb dX0_closure_51 ?_
          refine is_ti (nI (x ||| 2 ^ g)) (is_or _ _) ?_
          refine lv_istore (lv' := [(4, .int (nI (x ||| 2 ^ g))), (5, .int (nI g)), (2, .long r), (0, .ref (ha 0)), (1, .int (nI v))]) hx hb dX0_closure_52 hl (by decide) rfl (fun ls hl => ?_)
          refine lv_iinc (v := nI (g + 1)) (lv' := [(5, .int (nI (g + 1))), (4, .int (nI (x ||| 2 ^ g))), (2, .long r), (0, .ref (ha 0)), (1, .int (nI v))]) hx hb dX0_closure_54 hl (k := 1) rfl (is_inc g) (by decide) rfl (fun ls hl => ?_)
          refine lv_goto (tgt := 16) hx hb dX0_closure_57 (by decide) ?_
          exact ihlo (g + 1) _ (by omega) (by omega) (by rw [h3, is_clo_t ((is_cz hn (hLk g (by omega)) hr1).mp (is_cmp0.mp hz))]) _ _ _ hP hD hS (lv_sub hl [0, 1, 2, 3, 4] rfl)
  exact lo 9 0 _ (by omega) (by omega) rfl _ _ _ hP hD hS (lv_sub hl [0, 1, 2, 3, 4] rfl)
end
section
/-! CONTRACTS of ItemSets, 3: choose, goOn, start -/
set_option maxRecDepth 100000
theorem is_pm (c : Nat) : nI c - 1 + nI 1 = nI c := by
  show nI c - 1 + 1 = nI c
  exact Int32.sub_add_cancel _ _
theorem is_mp (c : Nat) : nI (c + 1) - 1 = nI c := nI_pred c
/-- the state between two steps of goOn: at an inner depth, at a leaf, at the end; mu: steps that are left -/
def is_gs (b : Nat → Nat) (n : Nat) (mm : Int32) (p0 mu : Nat) (st : Int32) (fo : Nat → Int64) (fc : Nat → Int32) (dp : Int32) : Prop :=
  (∃ S d c, d < 8 ∧ c ≤ 2 ∧ dp = nI d ∧ is_GI b n S d fo fc ∧ fc d = nI c - 1 ∧ (st = nI S ∨ st = nI (S + 2 ^ (7 - d))) ∧ p0 ≤ S + c * 2 ^ (7 - d) ∧ (∀ s, p0 ≤ s → s < S + c * 2 ^ (7 - d) → is_of b n mm s = false) ∧ is_mu S d c ≤ mu)
  ∨ (∃ S, dp = nI 8 ∧ is_GI b n S 8 fo fc ∧ st = nI S ∧ mm ≤ nI (is_sup b n S) ∧ p0 ≤ S ∧ (∀ s, p0 ≤ s → s < S → is_of b n mm s = false) ∧ is_mu S 8 0 ≤ mu)
  ∨ (dp = -1 ∧ ∀ s, p0 ≤ s → s < 256 → is_of b n mm s = false)
theorem is_gs_leaf {b : Nat → Nat} {n : Nat} {mm : Int32} {p0 S : Nat} {fo : Nat → Int64} {fc : Nat → Int32} (hG : is_GI b n S 8 fo fc) (hp : p0 ≤ S + 1) (hs : ∀ s, p0 ≤ s → s < S + 1 → is_of b n mm s = false) : is_gs b n mm p0 (is_mu S 8 0 - 1) (nI S) fo fc (nI 7) := by
  obtain ⟨h1, h2, h3⟩ := is_GI_back (d := 7) hG
  have hS := hG.1
  have e1 : S / 2 ^ (8 - 7) * 2 ^ (8 - 7) = S / 2 * 2 := rfl
  have e2 : S / 2 ^ (7 - 7) % 2 = S % 2 := by rw [show 2 ^ (7 - 7) = 1 from rfl, Nat.div_one]
  rw [e1] at h1 h3
  rw [e2] at h2 h3
  have hm := is_m4 S hS
  have hq := is_p4 S hS
  refine Or.inl ⟨S / 2 * 2, 7, S % 2 + 1, by decide, by omega, rfl, h1, by rw [h2, is_mp], ?_, by omega, fun s q1 q2 => hs s q1 (by omega), by omega⟩
  rcases Nat.mod_two_eq_zero_or_one S with q | q
  · left; congr 1; omega
  · right; congr 1; omega
theorem is_gs_back {b : Nat → Nat} {n : Nat} {mm : Int32} {p0 S d : Nat} {fo : Nat → Int64} {fc : Nat → Int32} {x : Int32} (hd : d < 8) (hG : is_GI b n S d fo fc) (hp : p0 ≤ S + 2 * 2 ^ (7 - d)) (hs : ∀ s, p0 ≤ s → s < S + 2 * 2 ^ (7 - d) → is_of b n mm s = false) : is_gs b n mm p0 (is_mu S d 2 - 1) (nI S) fo (upd fc d x) (nI d - nI 1) := by
  have hS := hG.1
  cases d with
  | zero =>
    have h0 : S = 0 := by
      have := hG.2.2.1
      simp at this
      omega
    subst h0
    exact Or.inr (Or.inr ⟨by decide, fun s q1 q2 => hs s q1 (by omega)⟩)
  | succ d =>
    have h3m := hG.2.2.1
    rw [show 8 - (d + 1) = 7 - d by omega] at h3m
    obtain ⟨h1, h2, h3⟩ := is_GI_back (is_GI_upd (x := x) hG)
    have hm := is_m1 d (by omega) S hS h3m
    have hq := is_p1 d (by omega) S hS h3m
    rw [show 7 - (d + 1) = 6 - d by omega] at hp hs
    refine Or.inl ⟨_, d, S / 2 ^ (7 - d) % 2 + 1, by omega, by omega, ?_, h1, by rw [h2, is_mp], ?_, by omega, fun s q1 q2 => hs s q1 (by omega), by omega⟩
    · rw [pk_sub (by omega)]; congr 1
    · rcases Nat.mod_two_eq_zero_or_one (S / 2 ^ (7 - d)) with q | q
      · left; congr 1; rw [q] at h3; omega
      · right; congr 1; rw [q] at h3; omega
theorem is_gs_fail {b : Nat → Nat} {n : Nat} {mm : Int32} {p0 S d c : Nat} {fo : Nat → Int64} {fc : Nat → Int32} (hn : n ≤ 40) (hd : d < 8) (hc : c < 2) (hG : is_GI b n S d fo fc) (hp : p0 ≤ S + c * 2 ^ (7 - d)) (hs : ∀ s, p0 ≤ s → s < S + c * 2 ^ (7 - d) → is_of b n mm s = false) (hf : ¬ mm ≤ nI (is_sup b n (S + c * 2 ^ (7 - d)))) : is_gs b n mm p0 (is_mu S d c - 1) (nI S) fo (upd fc d (nI c)) (nI d) := by
  have hS := hG.1
  have h3 := hG.2.2.1
  obtain ⟨q1, q2⟩ := is_f1b d hd S hS h3 c hc
  have hm := is_m3 d hd S hS h3 c hc
  have hsk := is_skip (e := 7 - d) hn (by omega) q1 q2 hf
  have e := is_p3 S d c
  refine Or.inl ⟨S, d, c + 1, hd, by omega, rfl, is_GI_upd hG, by rw [pk_us, is_mp], Or.inl rfl, by omega, fun s z1 z2 => ?_, by omega⟩
  rcases Nat.lt_or_ge s (S + c * 2 ^ (7 - d)) with z | z
  · exact hs s z1 z
  · exact hsk s z (by omega)
theorem is_gs_fwd {b : Nat → Nat} {n : Nat} {mm : Int32} {p0 S d c : Nat} {fo : Nat → Int64} {fc : Nat → Int32} {w : Int64} (hd : d < 8) (hc : c < 2) (hG : is_GI b n S d fo fc) (hp : p0 ≤ S + c * 2 ^ (7 - d)) (hs : ∀ s, p0 ≤ s → s < S + c * 2 ^ (7 - d) → is_of b n mm s = false) (hf : mm ≤ nI (is_sup b n (S + c * 2 ^ (7 - d)))) (hw : ∀ k, is_lb w k = is_ls b n (S + c * 2 ^ (7 - d)) k) : is_gs b n mm p0 (is_mu S d c - 1) (nI (S + c * 2 ^ (7 - d))) (vp_updL fo (d + 1) w) (upd (upd fc d (nI c)) (d + 1) (-1)) (nI (d + 1)) := by
  have hS := hG.1
  have h3 := hG.2.2.1
  have hm := is_m2 d hd S hS h3 c hc
  have hG2 := is_GI_fwd (x := -1) hG hd hc hw
  rcases Nat.lt_or_ge (d + 1) 8 with z | z
  · exact Or.inl ⟨_, d + 1, 0, z, by omega, rfl, hG2, by rw [pk_us]; decide, Or.inl rfl, by omega, fun s q1 q2 => hs s q1 (by omega), by omega⟩
  · have e : d = 7 := by omega
    subst e
    have hm2 : is_mu (S + c * 2 ^ (7 - 7)) 8 0 < is_mu S 7 c := hm
    exact Or.inr (Or.inl ⟨_, rfl, hG2, rfl, hf, by omega, hs, by omega⟩)
theorem is_gs_0 {b : Nat → Nat} {n : Nat} {mm : Int32} {fo : Nat → Int64} {fc : Nat → Int32} (h0 : fo 0 = 0) (h1 : fc 0 = -1) : is_gs b n mm 0 (is_mu 0 0 0) (nI 0) fo fc (nI 0) :=
  Or.inl ⟨0, 0, 0, by decide, by decide, rfl, is_GI_0 h0, by rw [h1]; decide, Or.inl rfl, by decide, fun s _ q => absurd q (by simp), Nat.le_refl _⟩
/-- what goOn answers: the next often set from p0 on, at its leaf; or none -/
def is_Go (b : Nat → Nat) (n : Nat) (fb : Nat → Int32) (so : Int32) (fl : Nat → Int64) (mm : Int32) (p0 : Nat) (r : Int32) (u' : is_US) : Prop :=
  (r = nI 1 ∧ ∃ (S : Nat) (fo : Nat → Int64) (fc : Nat → Int32), S < 256 ∧ p0 ≤ S ∧ is_of b n mm S = true ∧ (∀ s, p0 ≤ s → s < S → is_of b n mm s = false) ∧ is_GI b n S 8 fo fc ∧ u' = (nI n, fb, so, fl, nI S, fo, fc, nI 8))
  ∨ (r = nI 0 ∧ (∀ s, p0 ≤ s → s < 256 → is_of b n mm s = false) ∧ ∃ (st : Int32) (fo : Nat → Int64) (fc : Nat → Int32) (dp : Int32), u' = (nI n, fb, so, fl, st, fo, fc, dp))
def is_in (b : Nat → Nat) (n p0 : Nat) (st : Int32) (fo : Nat → Int64) (fc : Nat → Int32) (dp : Int32) : Prop :=
  (∃ S, p0 = S + 1 ∧ st = nI S ∧ dp = nI 8 ∧ is_GI b n S 8 fo fc) ∨ (p0 = 0 ∧ st = nI 0 ∧ dp = nI 0 ∧ fo 0 = 0 ∧ fc 0 = -1)
set_option maxHeartbeats 4000000 in
set_option maxRecDepth 100000 in
/-- choose(m) -/
theorem metX0_choose (l : Launch) (dC : Nat → ClassId) (dI : Nat → Nat → Nat) (ha : Nat → Nat) (da : Nat → ClassId) (sz : Nat) (b : Nat → Nat) (n : Nat) (fb : Nat → Int32) (so : Int32) (fl : Nat → Int64) (st : Int32) (fo : Nat → Int64) (fc : Nat → Int32) (d : Nat) (hn : n ≤ 40) (hLk : is_Lk b n fl) (mm : Int32) (S c0 : Nat) (hG : is_GI b n S d fo fc) (hd : d < 8) (hc : c0 ≤ 2) (hfc : fc d = nI c0 - 1) (hst : st = nI S ∨ st = nI (S + 2 ^ (7 - d))) : Met l yX0_choose (ws_ yX0_choose cX0_choose 5 none) ({ frames := 1, cells := 0, slots := 0, locals := 23 }) (is_P dC dI (is_XT da) (is_XW ha da (nI n, fb, so, fl, st, fo, fc, nI d)) sz [.ref (ha 0), .int mm]) (va_Qv (fun (u' : is_US) => (c0 = 2 ∧ u' = (nI n, fb, so, fl, nI S, fo, upd fc d (nI c0), nI d - nI 1)) ∨ (c0 < 2 ∧ ¬ mm ≤ nI (is_sup b n (S + c0 * 2 ^ (7 - d))) ∧ u' = (nI n, fb, so, fl, nI S, fo, upd fc d (nI c0), nI d)) ∨ (c0 < 2 ∧ mm ≤ nI (is_sup b n (S + c0 * 2 ^ (7 - d))) ∧ ∃ w : Int64, (∀ k, is_lb w k = is_ls b n (S + c0 * 2 ^ (7 - d)) k) ∧ u' = (nI n, fb, so, fl, nI (S + c0 * 2 ^ (7 - d)), vp_updL fo (d + 1) w, upd (upd fc d (nI c0)) (d + 1) (-1), nI (d + 1)))) (is_B dC dI (is_XT da) (is_XW ha da) (va_A (is_XW ha da (nI n, fb, so, fl, st, fo, fc, nI d)) sz)) (va_A (is_XW ha da (nI n, fb, so, fl, st, fo, fc, nI d)) sz)) 0 0 (va_A (is_XW ha da (nI n, fb, so, fl, st, fo, fc, nI d)) sz) := by
  refine Met.ofW (cc := cX0_choose) (maxL := 5) (ret := none) (by decide) rfl ?_
  intro p e s m args below meth c s₁ B hml hv
  obtain ⟨rfl, hsz, hP, hK, hD0⟩ := hv
  have hx := B.exec
  have hb := B.bytes
  have hr := B.returns
  have hts := atoms_spec (ws := (ws_ yX0_choose cX0_choose 5 none)) B.pre
  have hts : ∀ w ∈ lw_all, w.before _ s = true := fun w h => hts w (List.mem_cons_of_mem _ h)
  have hown : s.vm.findClass RX0 = some m.cls := findClass_of_methodNamed B.named
  have hlocks := B.notSynchronized
  subst hsz
  have hD := hD0.self (sz := s.heap.size)
  generalize hAe : va_A (is_XW ha da (nI n, fb, so, fl, st, fo, fc, nI d)) s.heap.size = A at hD ⊢
  have hA : ∀ q : Nat, s.heap.size ≤ q → A q := fun q h => by rw [← hAe]; exact Or.inr h
  have hS : va_S A s.heap s.heap [] := va_S.rf
  have hl := lv_entry ([.ref (ha 0), .int mm]) (n := 5) (Nat.le_of_ble_eq_true rfl)
  rw [lg_entry_eq]
  generalize (lg_sl ([.ref (ha 0), .int mm]) ++ List.replicate (5 - (lg_sl ([.ref (ha 0), .int mm])).length) Slot.unset).toArray = ls at hl ⊢
  have hl : lv_has ls 5 [(0, .ref (ha 0)), (1, .int mm)] := hl
  have hS8 := hG.1
  have h3 := hG.2.2.1
  refine lv_bipush (v := nI 7) hx hb dX0_choose_0 (by decide) ?_
  refine lv_aload_n hx hb dX0_choose_2 rfl (lv_at hl 0 rfl) ?_
  refine va_get (D := (dC, dI)) (ci := 0) (v := .int (nI d)) (C := RX0) (T := TX0) (N := 8) hx hb hts in_X0 hown hK hP 0 rfl rfl 7 (by decide) (hts _ q28) (fun _ h9 => h9) rfl dX0_choose_3 ?_
  refine lv_isub hx hb dX0_choose_6 ?_
  refine is_ti (nI (7 - d)) (pk_sub (by omega)) ?_
  refine lv_istore_n (lv' := [(2, .int (nI (7 - d))), (0, .ref (ha 0)), (1, .int mm)]) hx hb dX0_choose_7 rfl hl (by decide) rfl (fun ls hl => ?_)
  refine lv_aload_n hx hb dX0_choose_8 rfl (lv_at hl 1 rfl) ?_
  refine va_get (D := (dC, dI)) (ci := 0) (v := .ref (ha 4)) (C := RX0) (T := TX0) (N := 8) hx hb hts in_X0 hown hK hP 0 rfl rfl 6 (by decide) (hts _ q27) (fun _ h9 => h9) rfl dX0_choose_9 ?_
  refine lv_aload_n hx hb dX0_choose_12 rfl (lv_at hl 1 rfl) ?_
  refine va_get (D := (dC, dI)) (ci := 0) (v := .int (nI d)) (C := RX0) (T := TX0) (N := 8) hx hb hts in_X0 hown hK hP 0 rfl rfl 7 (by decide) (hts _ q28) (fun _ h9 => h9) rfl dX0_choose_13 ?_
  refine lv_dup2_11 hx hb dX0_choose_16 rfl rfl ?_
  refine is_iald (f := fc) hx hb hK hP 4 3 rfl rfl (by omega) (by decide) dX0_choose_17 ?_
  refine lv_iconst (v := nI 1) hx hb dX0_choose_18 (by decide) ?_
  refine lv_iadd hx hb dX0_choose_19 ?_
  refine is_ti (nI c0) (by rw [hfc, is_pm]) ?_
  refine is_iast (f := fc) hx hb hK hP hD hS 4 3 rfl rfl (by omega) (by decide) dX0_choose_20 (fun H locs hP hD hS => ?_)
  have hP : va_P (dC, dI) is_cl (is_XW ha da (nI n, fb, so, fl, st, fo, upd fc d (nI c0), nI d)) H := hP
  have hD : va_D A (is_XW ha da (nI n, fb, so, fl, st, fo, upd fc d (nI c0), nI d)) := hD
  refine lv_aload_n hx hb dX0_choose_21 rfl (lv_at hl 1 rfl) ?_
  refine lv_dup hx hb dX0_choose_22 rfl ?_
  refine va_get (D := (dC, dI)) (ci := 0) (v := .int st) (C := RX0) (T := TX0) (N := 8) hx hb hts in_X0 hown hK hP 0 rfl rfl 4 (by decide) (hts _ q25) (fun _ h9 => h9) rfl dX0_choose_23 ?_
  refine lv_iconst (v := nI 1) hx hb dX0_choose_26 (by decide) ?_
  refine lv_iload_n hx hb dX0_choose_27 rfl (lv_at hl 0 rfl) ?_
  refine lv_ishl hx hb dX0_choose_28 ?_
  refine lv_iconst (v := (-1)) hx hb dX0_choose_29 (by decide) ?_
  refine lv_ixor hx hb dX0_choose_30 ?_
  refine lv_iand hx hb dX0_choose_31 ?_
  refine is_ti (nI S) (by
      rcases hst with e | e
      · rw [e]; exact (is_f7 d hd S hS8 h3).1
      · rw [e]; exact (is_f7 d hd S hS8 h3).2) ?_
  refine va_put (D := (dC, dI)) (ci := 0) (v := .int (nI S)) (ty := .int) (C := RX0) (T := TX0) (N := 8) hx hb hts in_X0 tyX0 tyX0_ok nmX0 hown hK hP hD hS 0 rfl rfl 4 (by decide) (hts _ q25) (fun _ h9 => h9) rfl (by decide +kernel) rfl rfl (Nat.le_of_ble_eq_true rfl) dX0_choose_32 (fun H locs hP hD hS => ?_)
  have hP : va_P (dC, dI) is_cl (is_XW ha da (nI n, fb, so, fl, nI S, fo, upd fc d (nI c0), nI d)) H := hP
  have hD : va_D A (is_XW ha da (nI n, fb, so, fl, nI S, fo, upd fc d (nI c0), nI d)) := hD
  refine lv_aload_n hx hb dX0_choose_35 rfl (lv_at hl 1 rfl) ?_
  refine va_get (D := (dC, dI)) (ci := 0) (v := .ref (ha 4)) (C := RX0) (T := TX0) (N := 8) hx hb hts in_X0 hown hK hP 0 rfl rfl 6 (by decide) (hts _ q27) (fun _ h9 => h9) rfl dX0_choose_36 ?_
  refine lv_aload_n hx hb dX0_choose_39 rfl (lv_at hl 1 rfl) ?_
  refine va_get (D := (dC, dI)) (ci := 0) (v := .int (nI d)) (C := RX0) (T := TX0) (N := 8) hx hb hts in_X0 hown hK hP 0 rfl rfl 7 (by decide) (hts _ q28) (fun _ h9 => h9) rfl dX0_choose_40 ?_
  refine is_iald (f := upd fc d (nI c0)) hx hb hK hP 4 3 rfl rfl (by omega) (by decide) dX0_choose_43 ?_
  refine is_ti (nI c0) (pk_us) ?_
  refine lv_iconst (v := nI 1) hx hb dX0_choose_44 (by decide) ?_
  refine is_icmp_le (a := c0) (b := 1) (tgt := 59) hx hb (by omega) (by omega) dX0_choose_45 (by decide) (fun hc1 => ?_) (fun hc1 => ?_)
  · refine lv_aload_n hx hb dX0_choose_59 rfl (lv_at hl 1 rfl) ?_
    refine va_get (D := (dC, dI)) (ci := 0) (v := .ref (ha 4)) (C := RX0) (T := TX0) (N := 8) hx hb hts in_X0 hown hK hP 0 rfl rfl 6 (by decide) (hts _ q27) (fun _ h9 => h9) rfl dX0_choose_60 ?_
    refine lv_aload_n hx hb dX0_choose_63 rfl (lv_at hl 1 rfl) ?_
    refine va_get (D := (dC, dI)) (ci := 0) (v := .int (nI d)) (C := RX0) (T := TX0) (N := 8) hx hb hts in_X0 hown hK hP 0 rfl rfl 7 (by decide) (hts _ q28) (fun _ h9 => h9) rfl dX0_choose_64 ?_
    refine is_iald (f := upd fc d (nI c0)) hx hb hK hP 4 3 rfl rfl (by omega) (by decide) dX0_choose_67 ?_
    refine is_ti (nI c0) (pk_us) ?_
    refine is_if_ne (a := c0) (tgt := 83) hx hb (by omega) dX0_choose_68 (by decide) (fun hz => ?_) (fun hz => ?_)
    · refine lv_aload_n hx hb dX0_choose_83 rfl (lv_at hl 1 rfl) ?_
      refine va_get (D := (dC, dI)) (ci := 0) (v := .ref (ha 3)) (C := RX0) (T := TX0) (N := 8) hx hb hts in_X0 hown hK hP 0 rfl rfl 5 (by decide) (hts _ q26) (fun _ h9 => h9) rfl dX0_choose_84 ?_
      refine lv_aload_n hx hb dX0_choose_87 rfl (lv_at hl 1 rfl) ?_
      refine va_get (D := (dC, dI)) (ci := 0) (v := .int (nI d)) (C := RX0) (T := TX0) (N := 8) hx hb hts in_X0 hown hK hP 0 rfl rfl 7 (by decide) (hts _ q28) (fun _ h9 => h9) rfl dX0_choose_88 ?_
      refine is_lald (f := fo) hx hb hK hP 3 2 rfl rfl (by omega) (by decide) dX0_choose_91 ?_
      refine lv_aload_n hx hb dX0_choose_92 rfl (lv_at hl 1 rfl) ?_
      refine va_get (D := (dC, dI)) (ci := 0) (v := .ref (ha 2)) (C := RX0) (T := TX0) (N := 8) hx hb hts in_X0 hown hK hP 0 rfl rfl 3 (by decide) (hts _ q24) (fun _ h9 => h9) rfl dX0_choose_93 ?_
      refine lv_iload_n hx hb dX0_choose_96 rfl (lv_at hl 0 rfl) ?_
      refine is_lald (f := fl) hx hb hK hP 2 1 rfl rfl (by omega) (by decide) dX0_choose_97 ?_
      refine lv_lor hx hb dX0_choose_98 ?_
      have hw : ∀ k, is_lb (fo d ||| fl (7 - d)) k = is_ls b n (S + c0 * 2 ^ (7 - d)) k := fun k => by
        rw [is_lb_or, is_GI_lost hG, hLk (7 - d) (by omega), show c0 * 2 ^ (7 - d) = 2 ^ (7 - d) by rw [show c0 = 1 by omega, Nat.one_mul], is_ls_add b n k hS8 (by omega) (is_f1a d hd S hS8 h3)]
      generalize fo d ||| fl (7 - d) = wo at hw ⊢
      refine lv_lstore_n (lv' := [(3, .long wo), (2, .int (nI (7 - d))), (0, .ref (ha 0)), (1, .int mm)]) hx hb dX0_choose_99 rfl hl (by decide) rfl (fun ls hl => ?_)
      refine lv_aload_n hx hb dX0_choose_100 rfl (lv_at hl 2 rfl) ?_
      refine va_get (D := (dC, dI)) (ci := 0) (v := .int (nI n)) (C := RX0) (T := TX0) (N := 8) hx hb hts in_X0 hown hK hP 0 rfl rfl 0 (by decide) (hts _ q21) (fun _ h9 => h9) rfl dX0_choose_101 ?_
      refine lv_lload_n hx hb dX0_choose_104 rfl (lv_at hl 0 rfl) ?_
      refine is_cSi (As := [.long wo]) (rest := [.int (nI n)]) ⟨hx, hb, hml, hown, hts⟩ (metX0_ones l wo) (va_cwS 1 hts (lw_S q68 q69 q11 q70) rfl rfl rfl (by decide +kernel) ⟨Nat.le_of_ble_eq_true rfl, Nat.le_of_ble_eq_true rfl⟩) hP hS rfl hl.1 rfl (Nat.le_of_ble_eq_true rfl) dX0_choose_105 ⟨Nat.zero_le _, Nat.zero_le _⟩ (fun r H locs hw hP hS => ?_)
      subst hw
      refine lv_isub hx hb dX0_choose_108 ?_
      refine is_ti (nI (is_sup b n (S + c0 * 2 ^ (7 - d)))) (is_left' hn hw) ?_
      refine lv_iload_n hx hb dX0_choose_109 rfl (lv_at hl 3 rfl) ?_
      refine lv_icmp_lt (tgt := 165) hx hb dX0_choose_110 (by decide) (fun hm => ?_) (fun hm => ?_)
      · exact W.vret hx hb hr (fun t ht hW => ⟨⟨(nI n, fb, so, fl, nI S, fo, upd fc d (nI c0), nI d), rfl, Or.inr (Or.inl ⟨by omega, fun q => by rw [Int32.lt_iff_toInt_lt] at hm; rw [Int32.le_iff_toInt_le] at q; omega, rfl⟩), by rw [ht]; exact hP, va_K.moved hW.alike hK, hD⟩, hS.F ht⟩) hS.2.2 dX0_choose_165
      · refine lv_aload_n hx hb dX0_choose_113 rfl (lv_at hl 2 rfl) ?_
        refine lv_dup hx hb dX0_choose_114 rfl ?_
        refine va_get (D := (dC, dI)) (ci := 0) (v := .int (nI S)) (C := RX0) (T := TX0) (N := 8) hx hb hts in_X0 hown hK hP 0 rfl rfl 4 (by decide) (hts _ q25) (fun _ h9 => h9) rfl dX0_choose_115 ?_
        refine lv_aload_n hx hb dX0_choose_118 rfl (lv_at hl 2 rfl) ?_
        refine va_get (D := (dC, dI)) (ci := 0) (v := .ref (ha 4)) (C := RX0) (T := TX0) (N := 8) hx hb hts in_X0 hown hK hP 0 rfl rfl 6 (by decide) (hts _ q27) (fun _ h9 => h9) rfl dX0_choose_119 ?_
        refine lv_aload_n hx hb dX0_choose_122 rfl (lv_at hl 2 rfl) ?_
        refine va_get (D := (dC, dI)) (ci := 0) (v := .int (nI d)) (C := RX0) (T := TX0) (N := 8) hx hb hts in_X0 hown hK hP 0 rfl rfl 7 (by decide) (hts _ q28) (fun _ h9 => h9) rfl dX0_choose_123 ?_
        refine is_iald (f := upd fc d (nI c0)) hx hb hK hP 4 3 rfl rfl (by omega) (by decide) dX0_choose_126 ?_
        refine is_ti (nI c0) (pk_us) ?_
        refine lv_iload_n hx hb dX0_choose_127 rfl (lv_at hl 1 rfl) ?_
        refine lv_ishl hx hb dX0_choose_128 ?_
        refine lv_ior hx hb dX0_choose_129 ?_
        refine is_ti (nI (S + c0 * 2 ^ (7 - d))) (is_f8 d hd S hS8 h3 c0 (by omega)) ?_
        refine va_put (D := (dC, dI)) (ci := 0) (v := .int (nI (S + c0 * 2 ^ (7 - d)))) (ty := .int) (C := RX0) (T := TX0) (N := 8) hx hb hts in_X0 tyX0 tyX0_ok nmX0 hown hK hP hD hS 0 rfl rfl 4 (by decide) (hts _ q25) (fun _ h9 => h9) rfl (by decide +kernel) rfl rfl (Nat.le_of_ble_eq_true rfl) dX0_choose_130 (fun H locs hP hD hS => ?_)
        have hP : va_P (dC, dI) is_cl (is_XW ha da (nI n, fb, so, fl, nI (S + c0 * 2 ^ (7 - d)), fo, upd fc d (nI c0), nI d)) H := hP
        have hD : va_D A (is_XW ha da (nI n, fb, so, fl, nI (S + c0 * 2 ^ (7 - d)), fo, upd fc d (nI c0), nI d)) := hD
        refine lv_aload_n hx hb dX0_choose_133 rfl (lv_at hl 2 rfl) ?_
        refine va_get (D := (dC, dI)) (ci := 0) (v := .ref (ha 3)) (C := RX0) (T := TX0) (N := 8) hx hb hts in_X0 hown hK hP 0 rfl rfl 5 (by decide) (hts _ q26) (fun _ h9 => h9) rfl dX0_choose_134 ?_
        refine lv_aload_n hx hb dX0_choose_137 rfl (lv_at hl 2 rfl) ?_
        refine va_get (D := (dC, dI)) (ci := 0) (v := .int (nI d)) (C := RX0) (T := TX0) (N := 8) hx hb hts in_X0 hown hK hP 0 rfl rfl 7 (by decide) (hts _ q28) (fun _ h9 => h9) rfl dX0_choose_138 ?_
        refine lv_iconst (v := nI 1) hx hb dX0_choose_141 (by decide) ?_
        refine lv_iadd hx hb dX0_choose_142 ?_
        refine is_ti (nI (d + 1)) (nI_add d 1) ?_
        refine lv_lload_n hx hb dX0_choose_143 rfl (lv_at hl 0 rfl) ?_
        refine is_last (f := fo) hx hb hK hP hD hS 3 2 rfl rfl (by omega) (by decide) dX0_choose_144 (fun H locs hP hD hS => ?_)
        have hP : va_P (dC, dI) is_cl (is_XW ha da (nI n, fb, so, fl, nI (S + c0 * 2 ^ (7 - d)), vp_updL fo (d + 1) wo, upd fc d (nI c0), nI d)) H := hP
        have hD : va_D A (is_XW ha da (nI n, fb, so, fl, nI (S + c0 * 2 ^ (7 - d)), vp_updL fo (d + 1) wo, upd fc d (nI c0), nI d)) := hD
        refine lv_aload_n hx hb dX0_choose_145 rfl (lv_at hl 2 rfl) ?_
        refine lv_dup hx hb dX0_choose_146 rfl ?_
        refine va_get (D := (dC, dI)) (ci := 0) (v := .int (nI d)) (C := RX0) (T := TX0) (N := 8) hx hb hts in_X0 hown hK hP 0 rfl rfl 7 (by decide) (hts _ q28) (fun _ h9 => h9) rfl dX0_choose_147 ?_
        refine lv_iconst (v := nI 1) hx hb dX0_choose_150 (by decide) ?_
        refine lv_iadd hx hb dX0_choose_151 ?_
        refine is_ti (nI (d + 1)) (nI_add d 1) ?_
        refine va_put (D := (dC, dI)) (ci := 0) (v := .int (nI (d + 1))) (ty := .int) (C := RX0) (T := TX0) (N := 8) hx hb hts in_X0 tyX0 tyX0_ok nmX0 hown hK hP hD hS 0 rfl rfl 7 (by decide) (hts _ q28) (fun _ h9 => h9) rfl (by decide +kernel) rfl rfl (Nat.le_of_ble_eq_true rfl) dX0_choose_152 (fun H locs hP hD hS => ?_)
        have hP : va_P (dC, dI) is_cl (is_XW ha da (nI n, fb, so, fl, nI (S + c0 * 2 ^ (7 - d)), vp_updL fo (d + 1) wo, upd fc d (nI c0), nI (d + 1))) H := hP
        have hD : va_D A (is_XW ha da (nI n, fb, so, fl, nI (S + c0 * 2 ^ (7 - d)), vp_updL fo (d + 1) wo, upd fc d (nI c0), nI (d + 1))) := hD
        refine lv_aload_n hx hb dX0_choose_155 rfl (lv_at hl 2 rfl) ?_
        refine va_get (D := (dC, dI)) (ci := 0) (v := .ref (ha 4)) (C := RX0) (T := TX0) (N := 8) hx hb hts in_X0 hown hK hP 0 rfl rfl 6 (by decide) (hts _ q27) (fun _ h9 => h9) rfl dX0_choose_156 ?_
        refine lv_aload_n hx hb dX0_choose_159 rfl (lv_at hl 2 rfl) ?_
        refine va_get (D := (dC, dI)) (ci := 0) (v := .int (nI (d + 1))) (C := RX0) (T := TX0) (N := 8) hx hb hts in_X0 hown hK hP 0 rfl rfl 7 (by decide) (hts _ q28) (fun _ h9 => h9) rfl dX0_choose_160 ?_
        refine lv_iconst (v := (-1)) hx hb dX0_choose_163 (by decide) ?_
        refine is_iast (f := upd fc d (nI c0)) hx hb hK hP hD hS 4 3 rfl rfl (by omega) (by decide) dX0_choose_164 (fun H locs hP hD hS => ?_)
        have hP : va_P (dC, dI) is_cl (is_XW ha da (nI n, fb, so, fl, nI (S + c0 * 2 ^ (7 - d)), vp_updL fo (d + 1) wo, upd (upd fc d (nI c0)) (d + 1) (-1), nI (d + 1))) H := hP
        have hD : va_D A (is_XW ha da (nI n, fb, so, fl, nI (S + c0 * 2 ^ (7 - d)), vp_updL fo (d + 1) wo, upd (upd fc d (nI c0)) (d + 1) (-1), nI (d + 1))) := hD
        exact W.vret hx hb hr (fun t ht hW => ⟨⟨(nI n, fb, so, fl, nI (S + c0 * 2 ^ (7 - d)), vp_updL fo (d + 1) wo, upd (upd fc d (nI c0)) (d + 1) (-1), nI (d + 1)), rfl, Or.inr (Or.inr ⟨by omega, by rw [Int32.lt_iff_toInt_lt] at hm; rw [Int32.le_iff_toInt_le]; omega, wo, hw, rfl⟩), by rw [ht]; exact hP, va_K.moved hW.alike hK, hD⟩, hS.F ht⟩) hS.2.2 dX0_choose_165
    · refine lv_aload_n hx hb dX0_choose_71 rfl (lv_at hl 1 rfl) ?_
      refine va_get (D := (dC, dI)) (ci := 0) (v := .ref (ha 3)) (C := RX0) (T := TX0) (N := 8) hx hb hts in_X0 hown hK hP 0 rfl rfl 5 (by decide) (hts _ q26) (fun _ h9 => h9) rfl dX0_choose_72 ?_
      refine lv_aload_n hx hb dX0_choose_75 rfl (lv_at hl 1 rfl) ?_
      refine va_get (D := (dC, dI)) (ci := 0) (v := .int (nI d)) (C := RX0) (T := TX0) (N := 8) hx hb hts in_X0 hown hK hP 0 rfl rfl 7 (by decide) (hts _ q28) (fun _ h9 => h9) rfl dX0_choose_76 ?_
      refine is_lald (f := fo) hx hb hK hP 3 2 rfl rfl (by omega) (by decide) dX0_choose_79 ?_
      refine lv_goto (tgt := 99) hx hb dX0_choose_80 (by decide) ?_
      have hw : ∀ k, is_lb (fo d) k = is_ls b n (S + c0 * 2 ^ (7 - d)) k := fun k => by
        rw [is_GI_lost hG, hz, Nat.zero_mul, Nat.add_zero]
      generalize fo d = wo at hw ⊢
      refine lv_lstore_n (lv' := [(3, .long wo), (2, .int (nI (7 - d))), (0, .ref (ha 0)), (1, .int mm)]) hx hb dX0_choose_99 rfl hl (by decide) rfl (fun ls hl => ?_)
      refine lv_aload_n hx hb dX0_choose_100 rfl (lv_at hl 2 rfl) ?_
      refine va_get (D := (dC, dI)) (ci := 0) (v := .int (nI n)) (C := RX0) (T := TX0) (N := 8) hx hb hts in_X0 hown hK hP 0 rfl rfl 0 (by decide) (hts _ q21) (fun _ h9 => h9) rfl dX0_choose_101 ?_
      refine lv_lload_n hx hb dX0_choose_104 rfl (lv_at hl 0 rfl) ?_
      refine is_cSi (As := [.long wo]) (rest := [.int (nI n)]) ⟨hx, hb, hml, hown, hts⟩ (metX0_ones l wo) (va_cwS 1 hts (lw_S q68 q69 q11 q70) rfl rfl rfl (by decide +kernel) ⟨Nat.le_of_ble_eq_true rfl, Nat.le_of_ble_eq_true rfl⟩) hP hS rfl hl.1 rfl (Nat.le_of_ble_eq_true rfl) dX0_choose_105 ⟨Nat.zero_le _, Nat.zero_le _⟩ (fun r H locs hw hP hS => ?_)
      subst hw
      refine lv_isub hx hb dX0_choose_108 ?_
      refine is_ti (nI (is_sup b n (S + c0 * 2 ^ (7 - d)))) (is_left' hn hw) ?_
      refine lv_iload_n hx hb dX0_choose_109 rfl (lv_at hl 3 rfl) ?_
      refine lv_icmp_lt (tgt := 165) hx hb dX0_choose_110 (by decide) (fun hm => ?_) (fun hm => ?_)
      · exact W.vret hx hb hr (fun t ht hW => ⟨⟨(nI n, fb, so, fl, nI S, fo, upd fc d (nI c0), nI d), rfl, Or.inr (Or.inl ⟨by omega, fun q => by rw [Int32.lt_iff_toInt_lt] at hm; rw [Int32.le_iff_toInt_le] at q; omega, rfl⟩), by rw [ht]; exact hP, va_K.moved hW.alike hK, hD⟩, hS.F ht⟩) hS.2.2 dX0_choose_165
      · refine lv_aload_n hx hb dX0_choose_113 rfl (lv_at hl 2 rfl) ?_
        refine lv_dup hx hb dX0_choose_114 rfl ?_
        refine va_get (D := (dC, dI)) (ci := 0) (v := .int (nI S)) (C := RX0) (T := TX0) (N := 8) hx hb hts in_X0 hown hK hP 0 rfl rfl 4 (by decide) (hts _ q25) (fun _ h9 => h9) rfl dX0_choose_115 ?_
        refine lv_aload_n hx hb dX0_choose_118 rfl (lv_at hl 2 rfl) ?_
        refine va_get (D := (dC, dI)) (ci := 0) (v := .ref (ha 4)) (C := RX0) (T := TX0) (N := 8) hx hb hts in_X0 hown hK hP 0 rfl rfl 6 (by decide) (hts _ q27) (fun _ h9 => h9) rfl dX0_choose_119 ?_
        refine lv_aload_n hx hb dX0_choose_122 rfl (lv_at hl 2 rfl) ?_
        refine va_get (D := (dC, dI)) (ci := 0) (v := .int (nI d)) (C := RX0) (T := TX0) (N := 8) hx hb hts in_X0 hown hK hP 0 rfl rfl 7 (by decide) (hts _ q28) (fun _ h9 => h9) rfl dX0_choose_123 ?_
        refine is_iald (f := upd fc d (nI c0)) hx hb hK hP 4 3 rfl rfl (by omega) (by decide) dX0_choose_126 ?_
        refine is_ti (nI c0) (pk_us) ?_
        refine lv_iload_n hx hb dX0_choose_127 rfl (lv_at hl 1 rfl) ?_
        refine lv_ishl hx hb dX0_choose_128 ?_
        refine lv_ior hx hb dX0_choose_129 ?_
        refine is_ti (nI (S + c0 * 2 ^ (7 - d))) (is_f8 d hd S hS8 h3 c0 (by omega)) ?_
        refine va_put (D := (dC, dI)) (ci := 0) (v := .int (nI (S + c0 * 2 ^ (7 - d)))) (ty := .int) (C := RX0) (T := TX0) (N := 8) hx hb hts in_X0 tyX0 tyX0_ok nmX0 hown hK hP hD hS 0 rfl rfl 4 (by decide) (hts _ q25) (fun _ h9 => h9) rfl (by decide +kernel) rfl rfl (Nat.le_of_ble_eq_true rfl) dX0_choose_130 (fun H locs hP hD hS => ?_)
        have hP : va_P (dC, dI) is_cl (is_XW ha da (nI n, fb, so, fl, nI (S + c0 * 2 ^ (7 - d)), fo, upd fc d (nI c0), nI d)) H := hP
        have hD : va_D A (is_XW ha da (nI n, fb, so, fl, nI (S + c0 * 2 ^ (7 - d)), fo, upd fc d (nI c0), nI d)) := hD
        refine lv_aload_n hx hb dX0_choose_133 rfl (lv_at hl 2 rfl) ?_
        refine va_get (D := (dC, dI)) (ci := 0) (v := .ref (ha 3)) (C := RX0) (T := TX0) (N := 8) hx hb hts in_X0 hown hK hP 0 rfl rfl 5 (by decide) (hts _ q26) (fun _ h9 => h9) rfl dX0_choose_134 ?_
        refine lv_aload_n hx hb dX0_choose_137 rfl (lv_at hl 2 rfl) ?_
        refine va_get (D := (dC, dI)) (ci := 0) (v := .int (nI d)) (C := RX0) (T := TX0) (N := 8) hx hb hts in_X0 hown hK hP 0 rfl rfl 7 (by decide) (hts _ q28) (fun _ h9 => h9) rfl dX0_choose_138 ?_
        refine lv_iconst (v := nI 1) hx hb dX0_choose_141 (by decide) ?_
        refine lv_iadd hx hb dX0_choose_142 ?_
        refine is_ti (nI (d + 1)) (nI_add d 1) ?_
        refine lv_lload_n hx hb dX0_choose_143 rfl (lv_at hl 0 rfl) ?_
        refine is_last (f := fo) hx hb hK hP hD hS 3 2 rfl rfl (by omega) (by decide) dX0_choose_144 (fun H locs hP hD hS => ?_)
        have hP : va_P (dC, dI) is_cl (is_XW ha da (nI n, fb, so, fl, nI (S + c0 * 2 ^ (7 - d)), vp_updL fo (d + 1) wo, upd fc d (nI c0), nI d)) H := hP
        have hD : va_D A (is_XW ha da (nI n, fb, so, fl, nI (S + c0 * 2 ^ (7 - d)), vp_updL fo (d + 1) wo, upd fc d (nI c0), nI d)) := hD
        refine lv_aload_n hx hb dX0_choose_145 rfl (lv_at hl 2 rfl) ?_
        refine lv_dup hx hb dX0_choose_146 rfl ?_
        refine va_get (D := (dC, dI)) (ci := 0) (v := .int (nI d)) (C := RX0) (T := TX0) (N := 8) hx hb hts in_X0 hown hK hP 0 rfl rfl 7 (by decide) (hts _ q28) (fun _ h9 => h9) rfl dX0_choose_147 ?_
        refine lv_iconst (v := nI 1) hx hb dX0_choose_150 (by decide) ?_
        refine lv_iadd hx hb dX0_choose_151 ?_
        refine is_ti (nI (d + 1)) (nI_add d 1) ?_
        refine va_put (D := (dC, dI)) (ci := 0) (v := .int (nI (d + 1))) (ty := .int) (C := RX0) (T := TX0) (N := 8) hx hb hts in_X0 tyX0 tyX0_ok nmX0 hown hK hP hD hS 0 rfl rfl 7 (by decide) (hts _ q28) (fun _ h9 => h9) rfl (by decide +kernel) rfl rfl (Nat.le_of_ble_eq_true rfl) dX0_choose_152 (fun H locs hP hD hS => ?_)
        have hP : va_P (dC, dI) is_cl (is_XW ha da (nI n, fb, so, fl, nI (S + c0 * 2 ^ (7 - d)), vp_updL fo (d + 1) wo, upd fc d (nI c0), nI (d + 1))) H := hP
        have hD : va_D A (is_XW ha da (nI n, fb, so, fl, nI (S + c0 * 2 ^ (7 - d)), vp_updL fo (d + 1) wo, upd fc d (nI c0), nI (d + 1))) := hD
        refine lv_aload_n hx hb dX0_choose_155 rfl (lv_at hl 2 rfl) ?_
        refine va_get (D := (dC, dI)) (ci := 0) (v := .ref (ha 4)) (C := RX0) (T := TX0) (N := 8) hx hb hts in_X0 hown hK hP 0 rfl rfl 6 (by decide) (hts _ q27) (fun _ h9 => h9) rfl dX0_choose_156 ?_
        refine lv_aload_n hx hb dX0_choose_159 rfl (lv_at hl 2 rfl) ?_
        refine va_get (D := (dC, dI)) (ci := 0) (v := .int (nI (d + 1))) (C := RX0) (T := TX0) (N := 8) hx hb hts in_X0 hown hK hP 0 rfl rfl 7 (by decide) (hts _ q28) (fun _ h9 => h9) rfl dX0_choose_160 ?_
        refine lv_iconst (v := (-1)) hx hb dX0_choose_163 (by decide) ?_
        refine is_iast (f := upd fc d (nI c0)) hx hb hK hP hD hS 4 3 rfl rfl (by omega) (by decide) dX0_choose_164 (fun H locs hP hD hS => ?_)
        have hP : va_P (dC, dI) is_cl (is_XW ha da (nI n, fb, so, fl, nI (S + c0 * 2 ^ (7 - d)), vp_updL fo (d + 1) wo, upd (upd fc d (nI c0)) (d + 1) (-1), nI (d + 1))) H := hP
        have hD : va_D A (is_XW ha da (nI n, fb, so, fl, nI (S + c0 * 2 ^ (7 - d)), vp_updL fo (d + 1) wo, upd (upd fc d (nI c0)) (d + 1) (-1), nI (d + 1))) := hD
        exact W.vret hx hb hr (fun t ht hW => ⟨⟨(nI n, fb, so, fl, nI (S + c0 * 2 ^ (7 - d)), vp_updL fo (d + 1) wo, upd (upd fc d (nI c0)) (d + 1) (-1), nI (d + 1)), rfl, Or.inr (Or.inr ⟨by omega, by rw [Int32.lt_iff_toInt_lt] at hm; rw [Int32.le_iff_toInt_le]; omega, wo, hw, rfl⟩), by rw [ht]; exact hP, va_K.moved hW.alike hK, hD⟩, hS.F ht⟩) hS.2.2 dX0_choose_165
  · refine lv_aload_n hx hb dX0_choose_48 rfl (lv_at hl 1 rfl) ?_
    refine lv_dup hx hb dX0_choose_49 rfl ?_
    refine va_get (D := (dC, dI)) (ci := 0) (v := .int (nI d)) (C := RX0) (T := TX0) (N := 8) hx hb hts in_X0 hown hK hP 0 rfl rfl 7 (by decide) (hts _ q28) (fun _ h9 => h9) rfl dX0_choose_50 ?_
    refine lv_iconst (v := nI 1) hx hb dX0_choose_53 (by decide) ?_
    refine lv_isub hx hb dX0_choose_54 ?_
    refine va_put (D := (dC, dI)) (ci := 0) (v := .int ((nI d) - (nI 1))) (ty := .int) (C := RX0) (T := TX0) (N := 8) hx hb hts in_X0 tyX0 tyX0_ok nmX0 hown hK hP hD hS 0 rfl rfl 7 (by decide) (hts _ q28) (fun _ h9 => h9) rfl (by decide +kernel) rfl rfl (Nat.le_of_ble_eq_true rfl) dX0_choose_55 (fun H locs hP hD hS => ?_)
    have hP : va_P (dC, dI) is_cl (is_XW ha da (nI n, fb, so, fl, nI S, fo, upd fc d (nI c0), (nI d) - (nI 1))) H := hP
    have hD : va_D A (is_XW ha da (nI n, fb, so, fl, nI S, fo, upd fc d (nI c0), (nI d) - (nI 1))) := hD
    exact W.vret hx hb hr (fun t ht hW => ⟨⟨(nI n, fb, so, fl, nI S, fo, upd fc d (nI c0), (nI d) - (nI 1)), rfl, Or.inl ⟨by omega, rfl⟩, by rw [ht]; exact hP, va_K.moved hW.alike hK, hD⟩, hS.F ht⟩) hS.2.2 dX0_choose_58
set_option maxHeartbeats 4000000 in
set_option maxRecDepth 100000 in
/-- goOn(m): the next often set -/
theorem metX0_goOn (l : Launch) (dC : Nat → ClassId) (dI : Nat → Nat → Nat) (ha : Nat → Nat) (da : Nat → ClassId) (sz : Nat) (b : Nat → Nat) (n : Nat) (fb : Nat → Int32) (so : Int32) (fl : Nat → Int64) (st : Int32) (fo : Nat → Int64) (fc : Nat → Int32) (dp : Int32) (hn : n ≤ 40) (hLk : is_Lk b n fl) (mm : Int32) (hm1 : nI 1 ≤ mm) (p0 : Nat) (hin : is_in b n p0 st fo fc dp) : Met l yX0_goOn (ws_ yX0_goOn cX0_goOn 3 (some .boolean)) ({ frames := 2, cells := 0, slots := 0, locals := 47 }) (is_P dC dI (is_XT da) (is_XW ha da (nI n, fb, so, fl, st, fo, fc, dp)) sz [.ref (ha 0), .int mm]) (va_Qi (is_Go b n fb so fl mm p0) (is_B dC dI (is_XT da) (is_XW ha da) (va_A (is_XW ha da (nI n, fb, so, fl, st, fo, fc, dp)) sz)) (va_A (is_XW ha da (nI n, fb, so, fl, st, fo, fc, dp)) sz)) 0 0 (va_A (is_XW ha da (nI n, fb, so, fl, st, fo, fc, dp)) sz) := by
  refine Met.ofW (cc := cX0_goOn) (maxL := 3) (ret := (some .boolean)) (by decide) rfl ?_
  intro p e s m args below meth c s₁ B hml hv
  obtain ⟨rfl, hsz, hP, hK, hD0⟩ := hv
  have hx := B.exec
  have hb := B.bytes
  have hr := B.returns
  have hts := atoms_spec (ws := (ws_ yX0_goOn cX0_goOn 3 (some .boolean))) B.pre
  have hts : ∀ w ∈ lw_all, w.before _ s = true := fun w h => hts w (List.mem_cons_of_mem _ h)
  have hown : s.vm.findClass RX0 = some m.cls := findClass_of_methodNamed B.named
  have hlocks := B.notSynchronized
  subst hsz
  have hD := hD0.self (sz := s.heap.size)
  generalize hAe : va_A (is_XW ha da (nI n, fb, so, fl, st, fo, fc, dp)) s.heap.size = A at hD ⊢
  have hA : ∀ q : Nat, s.heap.size ≤ q → A q := fun q h => by rw [← hAe]; exact Or.inr h
  have hS : va_S A s.heap s.heap [] := va_S.rf
  have hl := lv_entry ([.ref (ha 0), .int mm]) (n := 3) (Nat.le_of_ble_eq_true rfl)
  rw [lg_entry_eq]
  generalize (lg_sl ([.ref (ha 0), .int mm]) ++ List.replicate (3 - (lg_sl ([.ref (ha 0), .int mm])).length) Slot.unset).toArray = ls at hl ⊢
  have hl : lv_has ls 3 [(0, .ref (ha 0)), (1, .int mm)] := hl
  have lo : ∀ (j : Nat) (k mu : Nat) (st : Int32) (fo : Nat → Int64) (fc : Nat → Int32) (dp : Int32), mu < j → k + mu < 1600 → is_gs b n mm p0 mu st fo fc dp → ∀ (H : Heap) (locs : List Loc) (ls : Array Slot), va_P (dC, dI) is_cl (is_XW ha da (nI n, fb, so, fl, st, fo, fc, dp)) H → va_D A (is_XW ha da (nI n, fb, so, fl, st, fo, fc, dp)) → va_S A s.heap H locs → lv_has ls 3 [(2, .int (nI k)), (0, .ref (ha 0)), (1, .int mm)] → W p l e (headSpec (ws_ yX0_goOn cX0_goOn 3 (some .boolean)) ({ frames := 2, cells := 0, slots := 0, locals := 47 })).room s m ([.ref (ha 0), .int mm] : List Value).toArray below meth c H locs 0 0 (MQ below (va_Qi (is_Go b n fb so fl mm p0) (is_B dC dI (is_XT da) (is_XW ha da) A) A) ([.ref (ha 0), .int mm] : List Value).toArray s 0 0 A) (F0 m 17 ls []) := by
    intro j
    induction j with
    | zero => intro k mu st fo fc dp h1 h2 h3; omega
    | succ j ihlo =>
      intro k mu st fo fc dp h1 h2 h3 H locs ls hP hD hS hl
      rcases h3 with ⟨S, d, c0, hd, hc, rfl, hG, hfc, hst, hp, hs, hmu⟩ | ⟨S, rfl, hG, rfl, hsu, hp, hs, hmu⟩ | ⟨rfl, hs⟩
      · refine lv_iload_n hx hb dX0_goOn_17 rfl (lv_at hl 0 rfl) ?_
        refine lv_sipush (v := nI 1600) hx hb dX0_goOn_18 (by decide) ?_
        refine is_icmp_ge (a := k) (b := 1600) (tgt := 69) hx hb (by omega) (by omega) dX0_goOn_21 (by decide) (fun hk => ?_) (fun hk => ?_)
        · omega
        · refine lv_aload_n hx hb dX0_goOn_24 rfl (lv_at hl 1 rfl) ?_
          refine va_get (D := (dC, dI)) (ci := 0) (v := .int (nI d)) (C := RX0) (T := TX0) (N := 8) hx hb hts in_X0 hown hK hP 0 rfl rfl 7 (by decide) (hts _ q28) (fun _ h9 => h9) rfl dX0_goOn_25 ?_
          refine is_if_lt (tgt := 69) hx hb (by omega) dX0_goOn_28 (by decide) ?_
          refine lv_aload_n hx hb dX0_goOn_31 rfl (lv_at hl 1 rfl) ?_
          refine va_get (D := (dC, dI)) (ci := 0) (v := .int (nI d)) (C := RX0) (T := TX0) (N := 8) hx hb hts in_X0 hown hK hP 0 rfl rfl 7 (by decide) (hts _ q28) (fun _ h9 => h9) rfl dX0_goOn_32 ?_
          refine lv_bipush (v := nI 8) hx hb dX0_goOn_35 (by decide) ?_
          refine is_icmp_ne (a := d) (b := 8) (tgt := 58) hx hb (by omega) (by omega) dX0_goOn_37 (by decide) (fun h8 => ?_) (fun h8 => ?_)
          · refine lv_aload_n hx hb dX0_goOn_58 rfl (lv_at hl 1 rfl) ?_
            refine lv_iload_n hx hb dX0_goOn_59 rfl (lv_at hl 2 rfl) ?_
            refine is_cVv (Wd := is_XW ha da) (u := (nI n, fb, so, fl, st, fo, fc, nI d)) (As := [.int mm]) (rest := []) (b := ha 0) ⟨hx, hb, hml, hown, hts⟩ (metX0_choose l dC dI ha da _ b n fb so fl st fo fc d hn hLk mm S c0 hG hd hc hfc hst) (cwV 1 hts (lw_V q83 q85 qs4 q11 q86) rfl rfl rfl (by decide +kernel) ⟨Nat.le_of_ble_eq_true rfl, Nat.le_of_ble_eq_true rfl⟩) (va_recv hK hP (ci := 0) (q0 := 0) rfl rfl) hK hP hD hS hA rfl hl.1 rfl (Nat.le_of_ble_eq_true rfl) dX0_goOn_60 ⟨Nat.zero_le _, Nat.zero_le _⟩ (fun u' H locs hw hP hD hS => ?_)
            have hmp := is_mu_le (S := S) (d := d) hc
            have hmp0 : 0 < is_mu S d c0 := by unfold is_mu; omega
            rcases hw with ⟨rfl, rfl⟩ | ⟨hc2, hf, rfl⟩ | ⟨hc2, hf, wo, hwo, rfl⟩
            · have hP : va_P (dC, dI) is_cl (is_XW ha da (nI n, fb, so, fl, nI S, fo, upd fc d (nI 2), nI d - nI 1)) H := hP
              have hD : va_D A (is_XW ha da (nI n, fb, so, fl, nI S, fo, upd fc d (nI 2), nI d - nI 1)) := hD
              refine lv_iinc (v := nI (k + 1)) (lv' := [(2, .int (nI (k + 1))), (0, .ref (ha 0)), (1, .int mm)]) hx hb dX0_goOn_63 hl (k := 0) rfl (is_inc k) (by decide) rfl (fun ls hl => ?_)
              refine lv_goto (tgt := 17) hx hb dX0_goOn_66 (by decide) ?_
              exact ihlo (k + 1) _ _ _ _ _ (by omega) (by omega) (is_gs_back hd hG hp hs) _ _ _ hP hD hS (lv_sub hl [0, 1, 2] rfl)
            · have hP : va_P (dC, dI) is_cl (is_XW ha da (nI n, fb, so, fl, nI S, fo, upd fc d (nI c0), nI d)) H := hP
              have hD : va_D A (is_XW ha da (nI n, fb, so, fl, nI S, fo, upd fc d (nI c0), nI d)) := hD
              refine lv_iinc (v := nI (k + 1)) (lv' := [(2, .int (nI (k + 1))), (0, .ref (ha 0)), (1, .int mm)]) hx hb dX0_goOn_63 hl (k := 0) rfl (is_inc k) (by decide) rfl (fun ls hl => ?_)
              refine lv_goto (tgt := 17) hx hb dX0_goOn_66 (by decide) ?_
              exact ihlo (k + 1) _ _ _ _ _ (by omega) (by omega) (is_gs_fail hn hd hc2 hG hp hs hf) _ _ _ hP hD hS (lv_sub hl [0, 1, 2] rfl)
            · have hP : va_P (dC, dI) is_cl (is_XW ha da (nI n, fb, so, fl, nI (S + c0 * 2 ^ (7 - d)), vp_updL fo (d + 1) wo, upd (upd fc d (nI c0)) (d + 1) (-1), nI (d + 1))) H := hP
              have hD : va_D A (is_XW ha da (nI n, fb, so, fl, nI (S + c0 * 2 ^ (7 - d)), vp_updL fo (d + 1) wo, upd (upd fc d (nI c0)) (d + 1) (-1), nI (d + 1))) := hD
              refine lv_iinc (v := nI (k + 1)) (lv' := [(2, .int (nI (k + 1))), (0, .ref (ha 0)), (1, .int mm)]) hx hb dX0_goOn_63 hl (k := 0) rfl (is_inc k) (by decide) rfl (fun ls hl => ?_)
              refine lv_goto (tgt := 17) hx hb dX0_goOn_66 (by decide) ?_
              exact ihlo (k + 1) _ _ _ _ _ (by omega) (by omega) (is_gs_fwd hd hc2 hG hp hs hf hwo) _ _ _ hP hD hS (lv_sub hl [0, 1, 2] rfl)
          · omega
      · refine lv_iload_n hx hb dX0_goOn_17 rfl (lv_at hl 0 rfl) ?_
        refine lv_sipush (v := nI 1600) hx hb dX0_goOn_18 (by decide) ?_
        refine is_icmp_ge (a := k) (b := 1600) (tgt := 69) hx hb (by omega) (by omega) dX0_goOn_21 (by decide) (fun hk => ?_) (fun hk => ?_)
        · omega
        · refine lv_aload_n hx hb dX0_goOn_24 rfl (lv_at hl 1 rfl) ?_
          refine va_get (D := (dC, dI)) (ci := 0) (v := .int (nI 8)) (C := RX0) (T := TX0) (N := 8) hx hb hts in_X0 hown hK hP 0 rfl rfl 7 (by decide) (hts _ q28) (fun _ h9 => h9) rfl dX0_goOn_25 ?_
          refine is_if_lt (tgt := 69) hx hb (by omega) dX0_goOn_28 (by decide) ?_
          refine lv_aload_n hx hb dX0_goOn_31 rfl (lv_at hl 1 rfl) ?_
          refine va_get (D := (dC, dI)) (ci := 0) (v := .int (nI 8)) (C := RX0) (T := TX0) (N := 8) hx hb hts in_X0 hown hK hP 0 rfl rfl 7 (by decide) (hts _ q28) (fun _ h9 => h9) rfl dX0_goOn_32 ?_
          refine lv_bipush (v := nI 8) hx hb dX0_goOn_35 (by decide) ?_
          refine is_icmp_ne (a := 8) (b := 8) (tgt := 58) hx hb (by omega) (by omega) dX0_goOn_37 (by decide) (fun h8 => ?_) (fun h8 => ?_)
          · omega
          · have hS8 := hG.1
            refine lv_aload_n hx hb dX0_goOn_40 rfl (lv_at hl 1 rfl) ?_
            refine va_get (D := (dC, dI)) (ci := 0) (v := .int (nI S)) (C := RX0) (T := TX0) (N := 8) hx hb hts in_X0 hown hK hP 0 rfl rfl 4 (by decide) (hts _ q25) (fun _ h9 => h9) rfl dX0_goOn_41 ?_
            refine is_if_eq (a := S) (tgt := 49) hx hb (by omega) dX0_goOn_44 (by decide) (fun hz => ?_) (fun hz => ?_)
            · subst hz
              have hmp0 : 0 < is_mu 0 8 0 := by decide
              refine lv_aload_n hx hb dX0_goOn_49 rfl (lv_at hl 1 rfl) ?_
              refine lv_bipush (v := nI 7) hx hb dX0_goOn_50 (by decide) ?_
              refine va_put (D := (dC, dI)) (ci := 0) (v := .int (nI 7)) (ty := .int) (C := RX0) (T := TX0) (N := 8) hx hb hts in_X0 tyX0 tyX0_ok nmX0 hown hK hP hD hS 0 rfl rfl 7 (by decide) (hts _ q28) (fun _ h9 => h9) rfl (by decide +kernel) rfl rfl (Nat.le_of_ble_eq_true rfl) dX0_goOn_52 (fun H locs hP hD hS => ?_)
              have hP : va_P (dC, dI) is_cl (is_XW ha da (nI n, fb, so, fl, nI 0, fo, fc, nI 7)) H := hP
              have hD : va_D A (is_XW ha da (nI n, fb, so, fl, nI 0, fo, fc, nI 7)) := hD
              refine lv_goto (tgt := 63) hx hb dX0_goOn_55 (by decide) ?_
              refine lv_iinc (v := nI (k + 1)) (lv' := [(2, .int (nI (k + 1))), (0, .ref (ha 0)), (1, .int mm)]) hx hb dX0_goOn_63 hl (k := 0) rfl (is_inc k) (by decide) rfl (fun ls hl => ?_)
              refine lv_goto (tgt := 17) hx hb dX0_goOn_66 (by decide) ?_
              exact ihlo (k + 1) _ _ _ _ _ (by omega) (by omega) (is_gs_leaf hG (by omega) (fun s q1 q2 => by rw [show s = 0 by omega]; exact is_of_0)) _ _ _ hP hD hS (lv_sub hl [0, 1, 2] rfl)
            · refine lv_iconst (v := nI 1) hx hb dX0_goOn_47 (by decide) ?_
              exact W.zret (v := nI 1) hx hb hr rfl (fun t ht hW => ⟨⟨nI 1, (nI n, fb, so, fl, nI S, fo, fc, nI 8), rfl, Or.inl ⟨rfl, S, fo, fc, hS8, hp, is_of_iff.mpr ⟨hm1, hz, hsu⟩, hs, hG, rfl⟩, by rw [ht]; exact hP, va_K.moved hW.alike hK, hD⟩, hS.F ht⟩) hS.2.2 dX0_goOn_48
      · refine lv_iload_n hx hb dX0_goOn_17 rfl (lv_at hl 0 rfl) ?_
        refine lv_sipush (v := nI 1600) hx hb dX0_goOn_18 (by decide) ?_
        refine is_icmp_ge (a := k) (b := 1600) (tgt := 69) hx hb (by omega) (by omega) dX0_goOn_21 (by decide) (fun hk => ?_) (fun hk => ?_)
        · omega
        · refine lv_aload_n hx hb dX0_goOn_24 rfl (lv_at hl 1 rfl) ?_
          refine va_get (D := (dC, dI)) (ci := 0) (v := .int (-1)) (C := RX0) (T := TX0) (N := 8) hx hb hts in_X0 hown hK hP 0 rfl rfl 7 (by decide) (hts _ q28) (fun _ h9 => h9) rfl dX0_goOn_25 ?_
          refine lv_if_lt (tgt := 69) hx hb dX0_goOn_28 (by decide) (fun hz => ?_) (fun hz => ?_)
          · refine lv_iconst (v := nI 0) hx hb dX0_goOn_69 (by decide) ?_
            exact W.zret (v := nI 0) hx hb hr rfl (fun t ht hW => ⟨⟨nI 0, (nI n, fb, so, fl, st, fo, fc, (-1)), rfl, Or.inr ⟨rfl, hs, st, fo, fc, -1, rfl⟩, by rw [ht]; exact hP, va_K.moved hW.alike hK, hD⟩, hS.F ht⟩) hS.2.2 dX0_goOn_70
          · exact absurd (by decide) hz
  rcases hin with ⟨S, rfl, rfl, rfl, hG⟩ | ⟨rfl, rfl, rfl, h0, hc0⟩
  · refine lv_aload_n hx hb dX0_goOn_0 rfl (lv_at hl 0 rfl) ?_
    refine va_get (D := (dC, dI)) (ci := 0) (v := .int (nI 8)) (C := RX0) (T := TX0) (N := 8) hx hb hts in_X0 hown hK hP 0 rfl rfl 7 (by decide) (hts _ q28) (fun _ h9 => h9) rfl dX0_goOn_1 ?_
    refine lv_bipush (v := nI 8) hx hb dX0_goOn_4 (by decide) ?_
    refine is_icmp_ne (a := 8) (b := 8) (tgt := 15) hx hb (by omega) (by omega) dX0_goOn_6 (by decide) (fun h => ?_) (fun h => ?_)
    · exact absurd rfl h
    · refine lv_aload_n hx hb dX0_goOn_9 rfl (lv_at hl 0 rfl) ?_
      refine lv_bipush (v := nI 7) hx hb dX0_goOn_10 (by decide) ?_
      refine va_put (D := (dC, dI)) (ci := 0) (v := .int (nI 7)) (ty := .int) (C := RX0) (T := TX0) (N := 8) hx hb hts in_X0 tyX0 tyX0_ok nmX0 hown hK hP hD hS 0 rfl rfl 7 (by decide) (hts _ q28) (fun _ h9 => h9) rfl (by decide +kernel) rfl rfl (Nat.le_of_ble_eq_true rfl) dX0_goOn_12 (fun H locs hP hD hS => ?_)
      have hP : va_P (dC, dI) is_cl (is_XW ha da (nI n, fb, so, fl, nI S, fo, fc, nI 7)) H := hP
      have hD : va_D A (is_XW ha da (nI n, fb, so, fl, nI S, fo, fc, nI 7)) := hD
      refine lv_iconst (v := nI 0) hx hb dX0_goOn_15 (by decide) ?_
      refine lv_istore_n (lv' := [(2, .int (nI 0)), (0, .ref (ha 0)), (1, .int mm)]) hx hb dX0_goOn_16 rfl hl (by decide) rfl (fun ls hl => ?_)
      have hmp := is_mu_le (S := S) (d := 8) (c := 0) (by decide)
      exact lo 1200 0 _ _ _ _ _ (by omega) (by omega) (is_gs_leaf hG (Nat.le_refl _) (fun s q1 q2 => absurd q1 (by omega))) _ _ _ hP hD hS (lv_sub hl [0, 1, 2] rfl)
  · refine lv_aload_n hx hb dX0_goOn_0 rfl (lv_at hl 0 rfl) ?_
    refine va_get (D := (dC, dI)) (ci := 0) (v := .int (nI 0)) (C := RX0) (T := TX0) (N := 8) hx hb hts in_X0 hown hK hP 0 rfl rfl 7 (by decide) (hts _ q28) (fun _ h9 => h9) rfl dX0_goOn_1 ?_
    refine lv_bipush (v := nI 8) hx hb dX0_goOn_4 (by decide) ?_
    refine is_icmp_ne (a := 0) (b := 8) (tgt := 15) hx hb (by omega) (by omega) dX0_goOn_6 (by decide) (fun h => ?_) (fun h => ?_)
    · refine lv_iconst (v := nI 0) hx hb dX0_goOn_15 (by decide) ?_
      refine lv_istore_n (lv' := [(2, .int (nI 0)), (0, .ref (ha 0)), (1, .int mm)]) hx hb dX0_goOn_16 rfl hl (by decide) rfl (fun ls hl => ?_)
      have hmp := is_mu_le (S := 0) (d := 0) (c := 0) (by decide)
      exact lo 1200 0 _ _ _ _ _ (by omega) (by omega) (is_gs_0 h0 hc0) _ _ _ hP hD hS (lv_sub hl [0, 1, 2] rfl)
    · exact absurd h (by decide)
set_option maxHeartbeats 4000000 in
set_option maxRecDepth 100000 in
/-- start(m): the first often set -/
theorem metX0_start (l : Launch) (dC : Nat → ClassId) (dI : Nat → Nat → Nat) (ha : Nat → Nat) (da : Nat → ClassId) (sz : Nat) (b : Nat → Nat) (n : Nat) (fb : Nat → Int32) (so : Int32) (fl : Nat → Int64) (st : Int32) (fo : Nat → Int64) (fc : Nat → Int32) (dp : Int32) (hn : n ≤ 40) (hbk : is_Bk fb n b) (hso : is_So b n so fl) (mm : Int32) : Met l yX0_start (ws_ yX0_start cX0_start 2 (some .boolean)) ({ frames := 3, cells := 0, slots := 0, locals := 69 }) (is_P dC dI (is_XT da) (is_XW ha da (nI n, fb, so, fl, st, fo, fc, dp)) sz [.ref (ha 0), .int mm]) (va_Qi (fun (r : Int32) (u' : is_US) => ∃ fl' : Nat → Int64, is_Lk b n fl' ∧ is_Go b n fb (nI 1) fl' mm 0 r u') (is_B dC dI (is_XT da) (is_XW ha da) (va_A (is_XW ha da (nI n, fb, so, fl, st, fo, fc, dp)) sz)) (va_A (is_XW ha da (nI n, fb, so, fl, st, fo, fc, dp)) sz)) 0 0 (va_A (is_XW ha da (nI n, fb, so, fl, st, fo, fc, dp)) sz) := by
  refine Met.ofW (cc := cX0_start) (maxL := 2) (ret := (some .boolean)) (by decide) rfl ?_
  intro p e s m args below meth c s₁ B hml hv
  obtain ⟨rfl, hsz, hP, hK, hD0⟩ := hv
  have hx := B.exec
  have hb := B.bytes
  have hr := B.returns
  have hts := atoms_spec (ws := (ws_ yX0_start cX0_start 2 (some .boolean))) B.pre
  have hts : ∀ w ∈ lw_all, w.before _ s = true := fun w h => hts w (List.mem_cons_of_mem _ h)
  have hown : s.vm.findClass RX0 = some m.cls := findClass_of_methodNamed B.named
  have hlocks := B.notSynchronized
  subst hsz
  have hD := hD0.self (sz := s.heap.size)
  generalize hAe : va_A (is_XW ha da (nI n, fb, so, fl, st, fo, fc, dp)) s.heap.size = A at hD ⊢
  have hA : ∀ q : Nat, s.heap.size ≤ q → A q := fun q h => by rw [← hAe]; exact Or.inr h
  have hS : va_S A s.heap s.heap [] := va_S.rf
  have hl := lv_entry ([.ref (ha 0), .int mm]) (n := 2) (Nat.le_of_ble_eq_true rfl)
  rw [lg_entry_eq]
  generalize (lg_sl ([.ref (ha 0), .int mm]) ++ List.replicate (2 - (lg_sl ([.ref (ha 0), .int mm])).length) Slot.unset).toArray = ls at hl ⊢
  have hl : lv_has ls 2 [(0, .ref (ha 0)), (1, .int mm)] := hl
  refine lv_aload_n hx hb dX0_start_0 rfl (lv_at hl 0 rfl) ?_
  refine is_cVv (Wd := is_XW ha da) (u := (nI n, fb, so, fl, st, fo, fc, dp)) (As := []) (rest := []) (b := ha 0) ⟨hx, hb, hml, hown, hts⟩ (metX0_sort l dC dI ha da _ b n fb so fl st fo fc dp hn hbk hso) (cwV 0 hts (lw_V q64 q66 qs1 q11 q67) rfl rfl rfl (by decide +kernel) ⟨Nat.le_of_ble_eq_true rfl, Nat.le_of_ble_eq_true rfl⟩) (va_recv hK hP (ci := 0) (q0 := 0) rfl rfl) hK hP hD hS hA rfl hl.1 rfl (Nat.le_of_ble_eq_true rfl) dX0_start_1 ⟨Nat.zero_le _, Nat.zero_le _⟩ (fun u' H locs hw hP hD hS => ?_)
  obtain ⟨fl', hLk, rfl⟩ := hw
  have hP : va_P (dC, dI) is_cl (is_XW ha da (nI n, fb, nI 1, fl', st, fo, fc, dp)) H := hP
  have hD : va_D A (is_XW ha da (nI n, fb, nI 1, fl', st, fo, fc, dp)) := hD
  refine lv_aload_n hx hb dX0_start_4 rfl (lv_at hl 0 rfl) ?_
  refine lv_iconst (v := nI 0) hx hb dX0_start_5 (by decide) ?_
  refine va_put (D := (dC, dI)) (ci := 0) (v := .int (nI 0)) (ty := .int) (C := RX0) (T := TX0) (N := 8) hx hb hts in_X0 tyX0 tyX0_ok nmX0 hown hK hP hD hS 0 rfl rfl 7 (by decide) (hts _ q28) (fun _ h9 => h9) rfl (by decide +kernel) rfl rfl (Nat.le_of_ble_eq_true rfl) dX0_start_6 (fun H locs hP hD hS => ?_)
  have hP : va_P (dC, dI) is_cl (is_XW ha da (nI n, fb, nI 1, fl', st, fo, fc, nI 0)) H := hP
  have hD : va_D A (is_XW ha da (nI n, fb, nI 1, fl', st, fo, fc, nI 0)) := hD
  refine lv_aload_n hx hb dX0_start_9 rfl (lv_at hl 0 rfl) ?_
  refine va_get (D := (dC, dI)) (ci := 0) (v := .ref (ha 3)) (C := RX0) (T := TX0) (N := 8) hx hb hts in_X0 hown hK hP 0 rfl rfl 5 (by decide) (hts _ q26) (fun _ h9 => h9) rfl dX0_start_10 ?_
  refine lv_iconst (v := nI 0) hx hb dX0_start_13 (by decide) ?_
  refine lv_lconst (v := 0) hx hb dX0_start_14 (by decide) ?_
  refine is_last (f := fo) hx hb hK hP hD hS 3 2 rfl rfl (by omega) (by decide) dX0_start_15 (fun H locs hP hD hS => ?_)
  have hP : va_P (dC, dI) is_cl (is_XW ha da (nI n, fb, nI 1, fl', st, vp_updL fo 0 0, fc, nI 0)) H := hP
  have hD : va_D A (is_XW ha da (nI n, fb, nI 1, fl', st, vp_updL fo 0 0, fc, nI 0)) := hD
  refine lv_aload_n hx hb dX0_start_16 rfl (lv_at hl 0 rfl) ?_
  refine va_get (D := (dC, dI)) (ci := 0) (v := .ref (ha 4)) (C := RX0) (T := TX0) (N := 8) hx hb hts in_X0 hown hK hP 0 rfl rfl 6 (by decide) (hts _ q27) (fun _ h9 => h9) rfl dX0_start_17 ?_
  refine lv_iconst (v := nI 0) hx hb dX0_start_20 (by decide) ?_
  refine lv_iconst (v := (-1)) hx hb dX0_start_21 (by decide) ?_
  refine is_iast (f := fc) hx hb hK hP hD hS 4 3 rfl rfl (by omega) (by decide) dX0_start_22 (fun H locs hP hD hS => ?_)
  have hP : va_P (dC, dI) is_cl (is_XW ha da (nI n, fb, nI 1, fl', st, vp_updL fo 0 0, upd fc 0 (-1), nI 0)) H := hP
  have hD : va_D A (is_XW ha da (nI n, fb, nI 1, fl', st, vp_updL fo 0 0, upd fc 0 (-1), nI 0)) := hD
  refine lv_aload_n hx hb dX0_start_23 rfl (lv_at hl 0 rfl) ?_
  refine lv_iconst (v := nI 0) hx hb dX0_start_24 (by decide) ?_
  refine va_put (D := (dC, dI)) (ci := 0) (v := .int (nI 0)) (ty := .int) (C := RX0) (T := TX0) (N := 8) hx hb hts in_X0 tyX0 tyX0_ok nmX0 hown hK hP hD hS 0 rfl rfl 4 (by decide) (hts _ q25) (fun _ h9 => h9) rfl (by decide +kernel) rfl rfl (Nat.le_of_ble_eq_true rfl) dX0_start_25 (fun H locs hP hD hS => ?_)
  have hP : va_P (dC, dI) is_cl (is_XW ha da (nI n, fb, nI 1, fl', nI 0, vp_updL fo 0 0, upd fc 0 (-1), nI 0)) H := hP
  have hD : va_D A (is_XW ha da (nI n, fb, nI 1, fl', nI 0, vp_updL fo 0 0, upd fc 0 (-1), nI 0)) := hD
  refine lv_iload_n hx hb dX0_start_28 rfl (lv_at hl 1 rfl) ?_
  refine lv_iconst (v := nI 1) hx hb dX0_start_29 (by decide) ?_
  refine lv_icmp_lt (tgt := 45) hx hb dX0_start_30 (by decide) (fun h => ?_) (fun h => ?_)
  · refine lv_iconst (v := nI 0) hx hb dX0_start_45 (by decide) ?_
    exact W.zret (v := nI 0) hx hb hr rfl (fun t ht hW => ⟨⟨nI 0, (nI n, fb, nI 1, fl', nI 0, vp_updL fo 0 0, upd fc 0 (-1), nI 0), rfl, ⟨fl', hLk, Or.inr ⟨rfl, fun s _ _ => is_of_f (fun q => by have q1 := q.1; rw [Int32.lt_iff_toInt_lt] at h; rw [Int32.le_iff_toInt_le] at q1; omega), nI 0, _, _, nI 0, rfl⟩⟩, by rw [ht]; exact hP, va_K.moved hW.alike hK, hD⟩, hS.F ht⟩) hS.2.2 dX0_start_46
  · refine lv_aload_n hx hb dX0_start_33 rfl (lv_at hl 0 rfl) ?_
    refine lv_iload_n hx hb dX0_start_34 rfl (lv_at hl 1 rfl) ?_
    refine is_cVi (Wd := is_XW ha da) (u := (nI n, fb, nI 1, fl', nI 0, vp_updL fo 0 0, upd fc 0 (-1), nI 0)) (As := [.int mm]) (rest := []) (b := ha 0) ⟨hx, hb, hml, hown, hts⟩ (metX0_goOn l dC dI ha da _ b n fb (nI 1) fl' _ _ _ _ hn hLk mm (by rw [Int32.lt_iff_toInt_lt] at h; rw [Int32.le_iff_toInt_le]; omega) 0 (Or.inr ⟨rfl, rfl, rfl, pk_uLs, pk_us⟩)) (cwV 1 hts (lw_V q79 q81 qs3 q11 q82) rfl rfl rfl (by decide +kernel) ⟨Nat.le_of_ble_eq_true rfl, Nat.le_of_ble_eq_true rfl⟩) (va_recv hK hP (ci := 0) (q0 := 0) rfl rfl) hK hP hD hS hA rfl hl.1 rfl (Nat.le_of_ble_eq_true rfl) dX0_start_35 ⟨Nat.zero_le _, Nat.zero_le _⟩ (fun r u' H locs hw hP hD hS => ?_)
    rcases hw with ⟨rfl, hgo⟩ | ⟨rfl, hgo⟩
    · refine is_if_eq (a := 1) (tgt := 45) hx hb (by omega) dX0_start_38 (by decide) (fun hz => ?_) (fun hz => ?_)
      · exact absurd hz (by decide)
      · refine lv_iconst (v := nI 1) hx hb dX0_start_41 (by decide) ?_
        refine lv_goto (tgt := 46) hx hb dX0_start_42 (by decide) ?_
        exact W.zret (v := nI 1) hx hb hr rfl (fun t ht hW => ⟨⟨nI 1, u', rfl, ⟨fl', hLk, Or.inl ⟨rfl, hgo⟩⟩, by rw [ht]; exact hP, va_K.moved hW.alike hK, hD⟩, hS.F ht⟩) hS.2.2 dX0_start_46
    · refine is_if_eq (a := 0) (tgt := 45) hx hb (by omega) dX0_start_38 (by decide) (fun hz => ?_) (fun hz => ?_)
      · refine lv_iconst (v := nI 0) hx hb dX0_start_45 (by decide) ?_
        exact W.zret (v := nI 0) hx hb hr rfl (fun t ht hW => ⟨⟨nI 0, u', rfl, ⟨fl', hLk, Or.inr ⟨rfl, hgo⟩⟩, by rw [ht]; exact hP, va_K.moved hW.alike hK, hD⟩, hS.F ht⟩) hS.2.2 dX0_start_46
      · exact absurd rfl hz
end
section
/-! CONTRACTS of ItemSets, 4: the queries over often sets -/
set_option maxRecDepth 100000
/-- a query's loop: at the leaf of an often set with all below it done, or at the end; I: what holds when all sets below are done -/
def is_lp (b : Nat → Nat) (n : Nat) (mm : Int32) (I : Nat → Prop) (k : Nat) (z st : Int32) (fo : Nat → Int64) (fc : Nat → Int32) (dp : Int32) : Prop :=
  (∃ S, z = nI 1 ∧ S < 256 ∧ k < S ∧ is_of b n mm S = true ∧ st = nI S ∧ dp = nI 8 ∧ is_GI b n S 8 fo fc ∧ I S) ∨ (z = nI 0 ∧ I 256)
def is_Fin (b : Nat → Nat) (n : Nat) (fb : Nat → Int32) (u' : is_US) : Prop := ∃ (fl : Nat → Int64) (st : Int32) (fo : Nat → Int64) (fc : Nat → Int32) (dp : Int32), is_Lk b n fl ∧ u' = (nI n, fb, nI 1, fl, st, fo, fc, dp)
theorem is_of_pos {b : Nat → Nat} {n : Nat} {mm : Int32} {S : Nat} (h : is_of b n mm S = true) : 0 < S := Nat.pos_of_ne_zero (is_of_iff.mp h).2.1
theorem is_fI {P : Nat → Bool} {f : Nat → Int32 → Int32} {S T : Nat} {acc acc' : Int32} (ha : acc = is_fld P f S) (hP : P S = true) (h' : acc' = f S acc) (hST : S + 1 ≤ T) (hs : ∀ s, S + 1 ≤ s → s < T → P s = false) : acc' = is_fld P f T := by
  rw [is_fld_skip hST hs, is_fld_t hP, h', ha]
theorem is_pc64 {S : Nat} (hS : S < 256) : fb_ct (is_lb ((nI S).toInt64)) 40 = is_pc S := by
  rw [nI_l (by omega)]
  have h1 : fb_ct (is_lb (lN S)) 40 = fb_ct S.testBit 40 := fb_ct_cong fun k hk => is_lb_N (by omega)
  rw [h1]
  refine is_ct_gap (a := 8) (by decide) fun x h1 _ => Nat.testBit_lt_two_pow (Nat.lt_of_lt_of_le hS (Nat.pow_le_pow_right (by decide) h1 : 2 ^ 8 ≤ 2 ^ x))
theorem is_rq_t {b : Nat → Nat} {n S : Nat} {p : Int32} {x : Nat} (h0 : x ≠ 0) (h : x &&& S = x) : is_rq b n S p x = is_rt b n S p x := by
  unfold is_rq
  simp [h0, h]
theorem is_rstep {b : Nat → Nat} {n S : Nat} {p : Int32} {x c0 c1 : Nat} (h0 : 0 < x) (h : x &&& S = x) (hc : c0 + fb_ct (is_rq b n S p) (x + 1) = fb_ct (is_rq b n S p) S) (h1 : c1 = c0 + if is_rt b n S p x then 1 else 0) : c1 + fb_ct (is_rq b n S p) (((x - 1) &&& S) + 1) = fb_ct (is_rq b n S p) S := by
  rw [fb_ct_succ, is_rq_t (by omega) h] at hc
  have hle : (x - 1) &&& S ≤ x - 1 := Nat.and_le_left
  have := is_ct_gap (q := is_rq b n S p) (a := ((x - 1) &&& S) + 1) (c := x) (by omega) (fun y h1 h2 => is_rq_f (is_gap h (by omega) h2 (by omega)))
  omega
theorem is_rstart {b : Nat → Nat} {n S : Nat} {p : Int32} (h0 : 0 < S) : 0 + fb_ct (is_rq b n S p) (((S - 1) &&& S) + 1) = fb_ct (is_rq b n S p) S := by
  have hle : (S - 1) &&& S ≤ S - 1 := Nat.and_le_left
  have := is_ct_gap (q := is_rq b n S p) (a := ((S - 1) &&& S) + 1) (c := S) (by omega) (fun y h1 h2 => is_rq_f (is_gap (Nat.and_self S) (by omega) h2 (by omega)))
  omega
def is_fO : Nat → Int32 → Int32 := fun _ a => a + 1
def is_fF (b : Nat → Nat) (n : Nat) : Nat → Int32 → Int32 := fun S a => a + (if 0 < is_ll b n S 8 then nI 1 else nI 0)
def is_fL (b : Nat → Nat) (n : Nat) (mm : Int32) : Nat → Int32 → Int32 := fun S a => a + (if nI (is_sup b n S) - nI (is_ll b n S 8) < mm then nI 1 else nI 0)
def is_fS : Nat → Int32 → Int32 := fun S a => if nI (is_pc S) ≤ a then a else nI (is_pc S)
def is_fR (b : Nat → Nat) (n : Nat) (p : Int32) : Nat → Int32 → Int32 := fun S a => a + nI (fb_ct (is_rq b n S p) S)
def is_nI (b : Nat → Nat) (n : Nat) (mm fr : Int32) : Nat → Prop := fun S => ∀ t, t < S → ¬ (is_of b n mm t = true ∧ fr ≤ nI t)
theorem is_nI_go {b : Nat → Nat} {n : Nat} {mm fr : Int32} {S T : Nat} (h : is_nI b n mm fr S) (h1 : ¬ fr ≤ nI S) (hs : ∀ s, S + 1 ≤ s → s < T → is_of b n mm s = false) : is_nI b n mm fr T := by
  intro t ht q
  rcases Nat.lt_trichotomy t S with z | z | z
  · exact h t z q
  · subst z; exact h1 q.2
  · rw [hs t z ht] at q; exact Bool.false_ne_true q.1
theorem is_not_le {x y : Int32} : ¬ x ≤ y ↔ y < x := by rw [Int32.le_iff_toInt_le, Int32.lt_iff_toInt_lt]; omega
set_option maxHeartbeats 4000000 in
set_option maxRecDepth 100000 in
/-- rulesWithin(whole, percent) -/
theorem metX0_rulesWithin (l : Launch) (dC : Nat → ClassId) (dI : Nat → Nat → Nat) (ha : Nat → Nat) (da : Nat → ClassId) (sz : Nat) (b : Nat → Nat) (n : Nat) (fb : Nat → Int32) (fl : Nat → Int64) (st : Int32) (fo : Nat → Int64) (fc : Nat → Int32) (dp : Int32) (hn : n ≤ 40) (hbk : is_Bk fb n b) (hLk : is_Lk b n fl) (S : Nat) (p1 : Int32) (hS8 : S < 256) (hS0 : 0 < S) (h8 : ∀ k, is_lb (fo 8) k = is_ls b n S k) : Met l yX0_rulesWithin (ws_ yX0_rulesWithin cX0_rulesWithin 12 (some .int)) ({ frames := 2, cells := 0, slots := 0, locals := 46 }) (is_P dC dI (is_XT da) (is_XW ha da (nI n, fb, nI 1, fl, st, fo, fc, dp)) sz [.ref (ha 0), .int (nI S), .int p1]) (va_Qi (fun (r : Int32) (u' : is_US) => r = nI (fb_ct (is_rq b n S p1) S) ∧ ∃ fl' : Nat → Int64, is_Lk b n fl' ∧ u' = (nI n, fb, nI 1, fl', st, fo, fc, dp)) (is_B dC dI (is_XT da) (is_XW ha da) (va_A (is_XW ha da (nI n, fb, nI 1, fl, st, fo, fc, dp)) sz)) (va_A (is_XW ha da (nI n, fb, nI 1, fl, st, fo, fc, dp)) sz)) 0 0 (va_A (is_XW ha da (nI n, fb, nI 1, fl, st, fo, fc, dp)) sz) := by
  refine Met.ofW (cc := cX0_rulesWithin) (maxL := 12) (ret := (some .int)) (by decide) rfl ?_
  intro p e s m args below meth c s₁ B hml hv
  obtain ⟨rfl, hsz, hP, hK, hD0⟩ := hv
  have hx := B.exec
  have hb := B.bytes
  have hr := B.returns
  have hts := atoms_spec (ws := (ws_ yX0_rulesWithin cX0_rulesWithin 12 (some .int))) B.pre
  have hts : ∀ w ∈ lw_all, w.before _ s = true := fun w h => hts w (List.mem_cons_of_mem _ h)
  have hown : s.vm.findClass RX0 = some m.cls := findClass_of_methodNamed B.named
  have hlocks := B.notSynchronized
  subst hsz
  have hD := hD0.self (sz := s.heap.size)
  generalize hAe : va_A (is_XW ha da (nI n, fb, nI 1, fl, st, fo, fc, dp)) s.heap.size = A at hD ⊢
  have hA : ∀ q : Nat, s.heap.size ≤ q → A q := fun q h => by rw [← hAe]; exact Or.inr h
  have hS : va_S A s.heap s.heap [] := va_S.rf
  have hl := lv_entry ([.ref (ha 0), .int (nI S), .int p1]) (n := 12) (Nat.le_of_ble_eq_true rfl)
  rw [lg_entry_eq]
  generalize (lg_sl ([.ref (ha 0), .int (nI S), .int p1]) ++ List.replicate (12 - (lg_sl ([.ref (ha 0), .int (nI S), .int p1])).length) Slot.unset).toArray = ls at hl ⊢
  have hl : lv_has ls 12 [(0, .ref (ha 0)), (1, .int (nI S)), (2, .int p1)] := hl
  refine lv_ldc2 (v := 100) hx hb hown (hts _ q120) dX0_rulesWithin_0 ?_
  refine lv_aload_n hx hb dX0_rulesWithin_3 rfl (lv_at hl 0 rfl) ?_
  refine va_get (D := (dC, dI)) (ci := 0) (v := .int (nI n)) (C := RX0) (T := TX0) (N := 8) hx hb hts in_X0 hown hK hP 0 rfl rfl 0 (by decide) (hts _ q21) (fun _ h9 => h9) rfl dX0_rulesWithin_4 ?_
  refine lv_aload_n hx hb dX0_rulesWithin_7 rfl (lv_at hl 0 rfl) ?_
  refine va_get (D := (dC, dI)) (ci := 0) (v := .ref (ha 3)) (C := RX0) (T := TX0) (N := 8) hx hb hts in_X0 hown hK hP 0 rfl rfl 5 (by decide) (hts _ q26) (fun _ h9 => h9) rfl dX0_rulesWithin_8 ?_
  refine lv_bipush (v := nI 8) hx hb dX0_rulesWithin_11 (by decide) ?_
  refine is_lald (f := fo) hx hb hK hP 3 2 rfl rfl (by omega) (by decide) dX0_rulesWithin_13 ?_
  refine is_cSi (As := [.long (fo 8)]) (rest := [.int (nI n), .long 100]) ⟨hx, hb, hml, hown, hts⟩ (metX0_ones l _) (va_cwS 1 hts (lw_S q68 q69 q11 q70) rfl rfl rfl (by decide +kernel) ⟨Nat.le_of_ble_eq_true rfl, Nat.le_of_ble_eq_true rfl⟩) hP hS rfl hl.1 rfl (Nat.le_of_ble_eq_true rfl) dX0_rulesWithin_14 ⟨Nat.zero_le _, Nat.zero_le _⟩ (fun r H locs hw hP hS => ?_)
  subst hw
  refine lv_isub hx hb dX0_rulesWithin_17 ?_
  refine is_ti (nI (is_sup b n S)) (is_left' hn h8) ?_
  refine lv_i2l (v := (nI (is_sup b n S)).toInt64) hx hb dX0_rulesWithin_18 rfl ?_
  refine lv_lmul hx hb dX0_rulesWithin_19 ?_
  refine lv_lstore_n (lv' := [(3, .long (100 * ((nI (is_sup b n S)).toInt64))), (0, .ref (ha 0)), (1, .int (nI S)), (2, .int p1)]) hx hb dX0_rulesWithin_20 rfl hl (by decide) rfl (fun ls hl => ?_)
  refine lv_iconst (v := nI 0) hx hb dX0_rulesWithin_21 (by decide) ?_
  refine lv_istore (lv' := [(5, .int (nI 0)), (3, .long (100 * ((nI (is_sup b n S)).toInt64))), (0, .ref (ha 0)), (1, .int (nI S)), (2, .int p1)]) hx hb dX0_rulesWithin_22 hl (by decide) rfl (fun ls hl => ?_)
  refine lv_iload_n hx hb dX0_rulesWithin_24 rfl (lv_at hl 3 rfl) ?_
  refine lv_iconst (v := nI 1) hx hb dX0_rulesWithin_25 (by decide) ?_
  refine lv_isub hx hb dX0_rulesWithin_26 ?_
  refine is_ti (nI (S - 1)) (pk_sub (by omega)) ?_
  refine lv_iload_n hx hb dX0_rulesWithin_27 rfl (lv_at hl 3 rfl) ?_
  refine lv_iand hx hb dX0_rulesWithin_28 ?_
  refine is_ti (nI ((S - 1) &&& S)) (is_and _ _) ?_
  refine lv_istore (lv' := [(6, .int (nI ((S - 1) &&& S))), (5, .int (nI 0)), (3, .long (100 * ((nI (is_sup b n S)).toInt64))), (0, .ref (ha 0)), (1, .int (nI S)), (2, .int p1)]) hx hb dX0_rulesWithin_29 hl (by decide) rfl (fun ls hl => ?_)
  refine lv_iconst (v := nI 0) hx hb dX0_rulesWithin_31 (by decide) ?_
  refine lv_istore (lv' := [(7, .int (nI 0)), (6, .int (nI ((S - 1) &&& S))), (5, .int (nI 0)), (3, .long (100 * ((nI (is_sup b n S)).toInt64))), (0, .ref (ha 0)), (1, .int (nI S)), (2, .int p1)]) hx hb dX0_rulesWithin_32 hl (by decide) rfl (fun ls hl => ?_)
  have lo : ∀ (j : Nat) (k c0 pt : Nat) (fl1 : Nat → Int64), pt < j → k + pt < 256 → is_Lk b n fl1 → pt &&& S = pt → c0 + fb_ct (is_rq b n S p1) (pt + 1) = fb_ct (is_rq b n S p1) S → ∀ (H : Heap) (locs : List Loc) (ls : Array Slot), va_P (dC, dI) is_cl (is_XW ha da (nI n, fb, nI 1, fl1, st, fo, fc, dp)) H → va_D A (is_XW ha da (nI n, fb, nI 1, fl1, st, fo, fc, dp)) → va_S A s.heap H locs → lv_has ls 12 [(7, .int (nI k)), (6, .int (nI pt)), (5, .int (nI c0)), (3, .long (100 * (nI (is_sup b n S)).toInt64)), (0, .ref (ha 0)), (1, .int (nI S)), (2, .int p1)] → W p l e (headSpec (ws_ yX0_rulesWithin cX0_rulesWithin 12 (some .int)) ({ frames := 2, cells := 0, slots := 0, locals := 46 })).room s m ([.ref (ha 0), .int (nI S), .int p1] : List Value).toArray below meth c H locs 0 0 (MQ below (va_Qi (fun (r : Int32) (u' : is_US) => r = nI (fb_ct (is_rq b n S p1) S) ∧ ∃ fl' : Nat → Int64, is_Lk b n fl' ∧ u' = (nI n, fb, nI 1, fl', st, fo, fc, dp)) (is_B dC dI (is_XT da) (is_XW ha da) A) A) ([.ref (ha 0), .int (nI S), .int p1] : List Value).toArray s 0 0 A) (F0 m 34 ls []) := by
    intro j
    induction j with
    | zero => intro k c0 pt fl1 h1 h2 h3 h4 h5; omega
    | succ j ihlo =>
      intro k c0 pt fl1 h1 h2 h3 h4 h5 H locs ls hP hD hS hl
      refine lv_iload hx hb dX0_rulesWithin_34 (lv_at hl 0 rfl) ?_
      refine lv_sipush (v := nI 256) hx hb dX0_rulesWithin_36 (by decide) ?_
      refine is_icmp_ge (a := k) (b := 256) (tgt := 102) hx hb (by omega) (by omega) dX0_rulesWithin_39 (by decide) (fun hk => ?_) (fun hk => ?_)
      · omega
      · refine lv_iload hx hb dX0_rulesWithin_42 (lv_at hl 1 rfl) ?_
        refine is_if_le (a := pt) (tgt := 102) hx hb (by omega) dX0_rulesWithin_44 (by decide) (fun hp => ?_) (fun hp => ?_)
        · refine lv_iload hx hb dX0_rulesWithin_102 (lv_at hl 2 rfl) ?_
          exact W.iret (v := nI c0) hx hb hr (fun t ht hW => ⟨⟨nI c0, (nI n, fb, nI 1, fl1, st, fo, fc, dp), rfl, ⟨by subst hp; rw [fb_ct_succ, is_rq_0] at h5; exact congrArg nI h5, fl1, h3, rfl⟩, by rw [ht]; exact hP, va_K.moved hW.alike hK, hD⟩, hS.F ht⟩) hS.2.2 dX0_rulesWithin_104
        · refine lv_aload_n hx hb dX0_rulesWithin_47 rfl (lv_at hl 4 rfl) ?_
          refine lv_iload hx hb dX0_rulesWithin_48 (lv_at hl 1 rfl) ?_
          refine is_cVl (Wd := is_XW ha da) (u := (nI n, fb, nI 1, fl1, st, fo, fc, dp)) (As := [.int (nI pt)]) (rest := []) (b := ha 0) ⟨hx, hb, hml, hown, hts⟩ (metX0_lostBy l dC dI ha da _ b n fb (nI 1) fl1 st fo fc dp hn hbk (Or.inr ⟨rfl, h3⟩) pt (by omega)) (cwV 1 hts (lw_V q60 q62 qs0 q11 q63) rfl rfl rfl (by decide +kernel) ⟨Nat.le_of_ble_eq_true rfl, Nat.le_of_ble_eq_true rfl⟩) (va_recv hK hP (ci := 0) (q0 := 0) rfl rfl) hK hP hD hS hA rfl hl.1 rfl (Nat.le_of_ble_eq_true rfl) dX0_rulesWithin_50 ⟨Nat.zero_le _, Nat.zero_le _⟩ (fun r u' H locs hw hP hD hS => ?_)
          obtain ⟨hr1, fl', hLk', rfl⟩ := hw
          have hP : va_P (dC, dI) is_cl (is_XW ha da (nI n, fb, nI 1, fl', st, fo, fc, dp)) H := hP
          have hD : va_D A (is_XW ha da (nI n, fb, nI 1, fl', st, fo, fc, dp)) := hD
          rw [Nat.mod_eq_of_lt (show pt < 256 by omega)] at hr1
          refine lv_lstore (lv' := [(8, .long r), (7, .int (nI k)), (6, .int (nI pt)), (5, .int (nI c0)), (3, .long (100 * (nI (is_sup b n S)).toInt64)), (0, .ref (ha 0)), (1, .int (nI S)), (2, .int p1)]) hx hb dX0_rulesWithin_53 hl (by decide) rfl (fun ls hl => ?_)
          refine lv_aload_n hx hb dX0_rulesWithin_55 rfl (lv_at hl 5 rfl) ?_
          refine va_get (D := (dC, dI)) (ci := 0) (v := .int (nI n)) (C := RX0) (T := TX0) (N := 8) hx hb hts in_X0 hown hK hP 0 rfl rfl 0 (by decide) (hts _ q21) (fun _ h9 => h9) rfl dX0_rulesWithin_56 ?_
          refine lv_lload hx hb dX0_rulesWithin_59 (lv_at hl 0 rfl) ?_
          refine is_cSi (As := [.long r]) (rest := [.int (nI n)]) ⟨hx, hb, hml, hown, hts⟩ (metX0_ones l r) (va_cwS 1 hts (lw_S q68 q69 q11 q70) rfl rfl rfl (by decide +kernel) ⟨Nat.le_of_ble_eq_true rfl, Nat.le_of_ble_eq_true rfl⟩) hP hS rfl hl.1 rfl (Nat.le_of_ble_eq_true rfl) dX0_rulesWithin_61 ⟨Nat.zero_le _, Nat.zero_le _⟩ (fun r H locs hw hP hS => ?_)
          subst hw
          refine lv_isub hx hb dX0_rulesWithin_64 ?_
          refine is_ti (nI (is_sup b n pt)) (is_left' hn hr1) ?_
          refine lv_i2l (v := (nI (is_sup b n pt)).toInt64) hx hb dX0_rulesWithin_65 rfl ?_
          refine lv_lstore (lv' := [(10, .long ((nI (is_sup b n pt)).toInt64)), (8, .long r), (7, .int (nI k)), (6, .int (nI pt)), (5, .int (nI c0)), (3, .long (100 * (nI (is_sup b n S)).toInt64)), (0, .ref (ha 0)), (1, .int (nI S)), (2, .int p1)]) hx hb dX0_rulesWithin_66 hl (by decide) rfl (fun ls hl => ?_)
          refine lv_iload hx hb dX0_rulesWithin_68 (lv_at hl 4 rfl) ?_
          refine lv_lload_n hx hb dX0_rulesWithin_70 rfl (lv_at hl 5 rfl) ?_
          refine lv_iload_n hx hb dX0_rulesWithin_71 rfl (lv_at hl 8 rfl) ?_
          refine lv_i2l (v := p1.toInt64) hx hb dX0_rulesWithin_72 rfl ?_
          refine lv_lload hx hb dX0_rulesWithin_73 (lv_at hl 0 rfl) ?_
          refine lv_lmul hx hb dX0_rulesWithin_75 ?_
          refine W.lcmp hx hb dX0_rulesWithin_76 ?_
          refine lv_if_lt (tgt := 84) hx hb dX0_rulesWithin_77 (by decide) (fun hc => ?_) (fun hc => ?_)
          · refine lv_iconst (v := nI 0) hx hb dX0_rulesWithin_84 (by decide) ?_
            refine lv_iadd hx hb dX0_rulesWithin_85 ?_
            refine is_ti (nI (c0)) (nI_add _ _) ?_
            refine lv_istore (lv' := [(5, .int (nI (c0))), (10, .long ((nI (is_sup b n pt)).toInt64)), (8, .long r), (7, .int (nI k)), (6, .int (nI pt)), (3, .long (100 * (nI (is_sup b n S)).toInt64)), (0, .ref (ha 0)), (1, .int (nI S)), (2, .int p1)]) hx hb dX0_rulesWithin_86 hl (by decide) rfl (fun ls hl => ?_)
            refine lv_iload hx hb dX0_rulesWithin_88 (lv_at hl 4 rfl) ?_
            refine lv_iconst (v := nI 1) hx hb dX0_rulesWithin_90 (by decide) ?_
            refine lv_isub hx hb dX0_rulesWithin_91 ?_
            refine is_ti (nI (pt - 1)) (pk_sub (by omega)) ?_
            refine lv_iload_n hx hb dX0_rulesWithin_92 rfl (lv_at hl 7 rfl) ?_
            refine lv_iand hx hb dX0_rulesWithin_93 ?_
            refine is_ti (nI ((pt - 1) &&& S)) (is_and _ _) ?_
            have hle : (pt - 1) &&& S ≤ pt - 1 := Nat.and_le_left
            refine lv_istore (lv' := [(6, .int (nI ((pt - 1) &&& S))), (5, .int (nI (c0))), (10, .long ((nI (is_sup b n pt)).toInt64)), (8, .long r), (7, .int (nI k)), (3, .long (100 * (nI (is_sup b n S)).toInt64)), (0, .ref (ha 0)), (1, .int (nI S)), (2, .int p1)]) hx hb dX0_rulesWithin_94 hl (by decide) rfl (fun ls hl => ?_)
            refine lv_iinc (v := nI (k + 1)) (lv' := [(7, .int (nI (k + 1))), (6, .int (nI ((pt - 1) &&& S))), (5, .int (nI (c0))), (10, .long ((nI (is_sup b n pt)).toInt64)), (8, .long r), (3, .long (100 * (nI (is_sup b n S)).toInt64)), (0, .ref (ha 0)), (1, .int (nI S)), (2, .int p1)]) hx hb dX0_rulesWithin_96 hl (k := 4) rfl (is_inc k) (by decide) rfl (fun ls hl => ?_)
            refine lv_goto (tgt := 34) hx hb dX0_rulesWithin_99 (by decide) ?_
            exact ihlo (k + 1) (c0) _ fl' (by omega) (by omega) hLk' is_part (is_rstep hp h4 h5 (by simp [show is_rt b n S p1 pt = false from by unfold is_rt; rw [decide_eq_true (is_cmp.mp hc)]; rfl])) _ _ _ hP hD hS (lv_sub hl [0, 1, 2, 5, 6, 7, 8] rfl)
          · refine lv_iconst (v := nI 1) hx hb dX0_rulesWithin_80 (by decide) ?_
            refine lv_goto (tgt := 85) hx hb dX0_rulesWithin_81 (by decide) ?_
            refine lv_iadd hx hb dX0_rulesWithin_85 ?_
            refine is_ti (nI (c0 + 1)) (nI_add _ _) ?_
            refine lv_istore (lv' := [(5, .int (nI (c0 + 1))), (10, .long ((nI (is_sup b n pt)).toInt64)), (8, .long r), (7, .int (nI k)), (6, .int (nI pt)), (3, .long (100 * (nI (is_sup b n S)).toInt64)), (0, .ref (ha 0)), (1, .int (nI S)), (2, .int p1)]) hx hb dX0_rulesWithin_86 hl (by decide) rfl (fun ls hl => ?_)
            refine lv_iload hx hb dX0_rulesWithin_88 (lv_at hl 4 rfl) ?_
            refine lv_iconst (v := nI 1) hx hb dX0_rulesWithin_90 (by decide) ?_
            refine lv_isub hx hb dX0_rulesWithin_91 ?_
            refine is_ti (nI (pt - 1)) (pk_sub (by omega)) ?_
            refine lv_iload_n hx hb dX0_rulesWithin_92 rfl (lv_at hl 7 rfl) ?_
            refine lv_iand hx hb dX0_rulesWithin_93 ?_
            refine is_ti (nI ((pt - 1) &&& S)) (is_and _ _) ?_
            have hle : (pt - 1) &&& S ≤ pt - 1 := Nat.and_le_left
            refine lv_istore (lv' := [(6, .int (nI ((pt - 1) &&& S))), (5, .int (nI (c0 + 1))), (10, .long ((nI (is_sup b n pt)).toInt64)), (8, .long r), (7, .int (nI k)), (3, .long (100 * (nI (is_sup b n S)).toInt64)), (0, .ref (ha 0)), (1, .int (nI S)), (2, .int p1)]) hx hb dX0_rulesWithin_94 hl (by decide) rfl (fun ls hl => ?_)
            refine lv_iinc (v := nI (k + 1)) (lv' := [(7, .int (nI (k + 1))), (6, .int (nI ((pt - 1) &&& S))), (5, .int (nI (c0 + 1))), (10, .long ((nI (is_sup b n pt)).toInt64)), (8, .long r), (3, .long (100 * (nI (is_sup b n S)).toInt64)), (0, .ref (ha 0)), (1, .int (nI S)), (2, .int p1)]) hx hb dX0_rulesWithin_96 hl (k := 4) rfl (is_inc k) (by decide) rfl (fun ls hl => ?_)
            refine lv_goto (tgt := 34) hx hb dX0_rulesWithin_99 (by decide) ?_
            exact ihlo (k + 1) (c0 + 1) _ fl' (by omega) (by omega) hLk' is_part (is_rstep hp h4 h5 (by simp [show is_rt b n S p1 pt = true from by unfold is_rt; rw [decide_eq_false (fun q => hc (is_cmp.mpr q))]; rfl])) _ _ _ hP hD hS (lv_sub hl [0, 1, 2, 5, 6, 7, 8] rfl)
  have hle : (S - 1) &&& S ≤ S - 1 := Nat.and_le_left
  exact lo 256 0 0 _ fl (by omega) (by omega) hLk is_part (is_rstart hS0) _ _ _ hP hD hS (lv_sub hl [0, 1, 2, 3, 4, 5, 6] rfl)
set_option maxHeartbeats 4000000 in
set_option maxRecDepth 100000 in
/-- often(m) -/
theorem metX0_often (l : Launch) (dC : Nat → ClassId) (dI : Nat → Nat → Nat) (ha : Nat → Nat) (da : Nat → ClassId) (sz : Nat) (b : Nat → Nat) (n : Nat) (fb : Nat → Int32) (so : Int32) (fl : Nat → Int64) (st : Int32) (fo : Nat → Int64) (fc : Nat → Int32) (dp : Int32) (hn : n ≤ 40) (hbk : is_Bk fb n b) (hso : is_So b n so fl) (mm : Int32) : Met l yX0_often (ws_ yX0_often cX0_often 5 (some .int)) ({ frames := 4, cells := 0, slots := 0, locals := 90 }) (is_P dC dI (is_XT da) (is_XW ha da (nI n, fb, so, fl, st, fo, fc, dp)) sz [.ref (ha 0), .int mm]) (va_Qi (fun (r : Int32) (u' : is_US) => r = is_fld (is_of b n mm) is_fO 256 ∧ is_Fin b n fb u') (is_B dC dI (is_XT da) (is_XW ha da) (va_A (is_XW ha da (nI n, fb, so, fl, st, fo, fc, dp)) sz)) (va_A (is_XW ha da (nI n, fb, so, fl, st, fo, fc, dp)) sz)) 0 0 (va_A (is_XW ha da (nI n, fb, so, fl, st, fo, fc, dp)) sz) := by
  refine Met.ofW (cc := cX0_often) (maxL := 5) (ret := (some .int)) (by decide) rfl ?_
  intro p e s m args below meth c s₁ B hml hv
  obtain ⟨rfl, hsz, hP, hK, hD0⟩ := hv
  have hx := B.exec
  have hb := B.bytes
  have hr := B.returns
  have hts := atoms_spec (ws := (ws_ yX0_often cX0_often 5 (some .int))) B.pre
  have hts : ∀ w ∈ lw_all, w.before _ s = true := fun w h => hts w (List.mem_cons_of_mem _ h)
  have hown : s.vm.findClass RX0 = some m.cls := findClass_of_methodNamed B.named
  have hlocks := B.notSynchronized
  subst hsz
  have hD := hD0.self (sz := s.heap.size)
  generalize hAe : va_A (is_XW ha da (nI n, fb, so, fl, st, fo, fc, dp)) s.heap.size = A at hD ⊢
  have hA : ∀ q : Nat, s.heap.size ≤ q → A q := fun q h => by rw [← hAe]; exact Or.inr h
  have hS : va_S A s.heap s.heap [] := va_S.rf
  have hl := lv_entry ([.ref (ha 0), .int mm]) (n := 5) (Nat.le_of_ble_eq_true rfl)
  rw [lg_entry_eq]
  generalize (lg_sl ([.ref (ha 0), .int mm]) ++ List.replicate (5 - (lg_sl ([.ref (ha 0), .int mm])).length) Slot.unset).toArray = ls at hl ⊢
  have hl : lv_has ls 5 [(0, .ref (ha 0)), (1, .int mm)] := hl
  refine lv_iconst (v := nI 0) hx hb dX0_often_0 (by decide) ?_
  refine lv_istore_n (lv' := [(2, .int (nI 0)), (0, .ref (ha 0)), (1, .int mm)]) hx hb dX0_often_1 rfl hl (by decide) rfl (fun ls hl => ?_)
  refine lv_aload_n hx hb dX0_often_2 rfl (lv_at hl 1 rfl) ?_
  refine lv_iload_n hx hb dX0_often_3 rfl (lv_at hl 2 rfl) ?_
  refine is_cVi (Wd := is_XW ha da) (u := (nI n, fb, so, fl, st, fo, fc, dp)) (As := [.int mm]) (rest := []) (b := ha 0) ⟨hx, hb, hml, hown, hts⟩ (metX0_start l dC dI ha da _ b n fb so fl st fo fc dp hn hbk hso mm) (cwV 1 hts (lw_V q75 q77 qs2 q11 q78) rfl rfl rfl (by decide +kernel) ⟨Nat.le_of_ble_eq_true rfl, Nat.le_of_ble_eq_true rfl⟩) (va_recv hK hP (ci := 0) (q0 := 0) rfl rfl) hK hP hD hS hA rfl hl.1 rfl (Nat.le_of_ble_eq_true rfl) dX0_often_4 ⟨Nat.zero_le _, Nat.zero_le _⟩ (fun r u' H locs hw hP hD hS => ?_)
  obtain ⟨fl', hLk, hgo⟩ := hw
  have lo : ∀ (j : Nat) (fl1 : Nat → Int64) (k : Nat) (z acc st : Int32) (fo : Nat → Int64) (fc : Nat → Int32) (dp : Int32), 256 < k + j → k ≤ 256 → is_Lk b n fl1 → is_lp b n mm (fun S => acc = is_fld (is_of b n mm) is_fO S) k z st fo fc dp → ∀ (H : Heap) (locs : List Loc) (ls : Array Slot), va_P (dC, dI) is_cl (is_XW ha da (nI n, fb, nI 1, fl1, st, fo, fc, dp)) H → va_D A (is_XW ha da (nI n, fb, nI 1, fl1, st, fo, fc, dp)) → va_S A s.heap H locs → lv_has ls 5 [(4, .int (nI k)), (3, .int z), (2, .int acc), (0, .ref (ha 0)), (1, .int mm)] → W p l e (headSpec (ws_ yX0_often cX0_often 5 (some .int)) ({ frames := 4, cells := 0, slots := 0, locals := 90 })).room s m ([.ref (ha 0), .int mm] : List Value).toArray below meth c H locs 0 0 (MQ below (va_Qi (fun (r : Int32) (u' : is_US) => r = is_fld (is_of b n mm) is_fO 256 ∧ is_Fin b n fb u') (is_B dC dI (is_XT da) (is_XW ha da) A) A) ([.ref (ha 0), .int mm] : List Value).toArray s 0 0 A) (F0 m 11 ls []) := by
    intro j
    induction j with
    | zero => intro fl1 k z acc st fo fc dp h1 h2 hLk1 h3; omega
    | succ j ihlo =>
      intro fl1 k z acc st fo fc dp h1 h2 hLk1 h3 H locs ls hP hD hS hl
      rcases h3 with ⟨S, rfl, hS8, hkS, hof, rfl, rfl, hG, hI⟩ | ⟨rfl, hI⟩
      · refine lv_iload hx hb dX0_often_11 (lv_at hl 0 rfl) ?_
        refine lv_sipush (v := nI 256) hx hb dX0_often_13 (by decide) ?_
        refine is_icmp_ge (a := k) (b := 256) (tgt := 38) hx hb (by omega) (by omega) dX0_often_16 (by decide) (fun hk => ?_) (fun hk => ?_)
        · omega
        · refine lv_iload_n hx hb dX0_often_19 rfl (lv_at hl 1 rfl) ?_
          refine is_if_eq (a := 1) (tgt := 38) hx hb (by omega) dX0_often_20 (by decide) (fun hz => ?_) (fun hz => ?_)
          · exact absurd hz (by decide)
          · have hm1 := (is_of_iff.mp hof).1
            refine lv_iinc (v := acc + 1) (lv' := [(2, .int (acc + 1)), (4, .int (nI k)), (3, .int (nI 1)), (0, .ref (ha 0)), (1, .int mm)]) hx hb dX0_often_23 hl (k := 2) rfl (rfl) (by decide) rfl (fun ls hl => ?_)
            refine lv_aload_n hx hb dX0_often_26 rfl (lv_at hl 3 rfl) ?_
            refine lv_iload_n hx hb dX0_often_27 rfl (lv_at hl 4 rfl) ?_
            refine is_cVi (Wd := is_XW ha da) (u := (nI n, fb, nI 1, fl1, nI S, fo, fc, nI 8)) (As := [.int mm]) (rest := []) (b := ha 0) ⟨hx, hb, hml, hown, hts⟩ (metX0_goOn l dC dI ha da _ b n fb (nI 1) fl1 _ _ _ _ hn hLk1 mm hm1 (S + 1) (Or.inl ⟨S, rfl, rfl, rfl, hG⟩)) (cwV 1 hts (lw_V q79 q81 qs3 q11 q82) rfl rfl rfl (by decide +kernel) ⟨Nat.le_of_ble_eq_true rfl, Nat.le_of_ble_eq_true rfl⟩) (va_recv hK hP (ci := 0) (q0 := 0) rfl rfl) hK hP hD hS hA rfl hl.1 rfl (Nat.le_of_ble_eq_true rfl) dX0_often_28 ⟨Nat.zero_le _, Nat.zero_le _⟩ (fun r u' H locs hw hP hD hS => ?_)
            rcases hw with ⟨rfl, S2, fo2, fc2, hS2, hp2, hof2, hs2, hG2, rfl⟩ | ⟨rfl, hs2, st2, fo2, fc2, dp2, rfl⟩
            · refine lv_istore_n (lv' := [(3, .int (nI 1)), (2, .int (acc + 1)), (4, .int (nI k)), (0, .ref (ha 0)), (1, .int mm)]) hx hb dX0_often_31 rfl hl (by decide) rfl (fun ls hl => ?_)
              refine lv_iinc (v := nI (k + 1)) (lv' := [(4, .int (nI (k + 1))), (3, .int (nI 1)), (2, .int (acc + 1)), (0, .ref (ha 0)), (1, .int mm)]) hx hb dX0_often_32 hl (k := 2) rfl (is_inc k) (by decide) rfl (fun ls hl => ?_)
              refine lv_goto (tgt := 11) hx hb dX0_often_35 (by decide) ?_
              exact ihlo fl1 (k + 1) _ _ _ _ _ _ (by omega) (by omega) hLk1 (Or.inl ⟨S2, rfl, hS2, by omega, hof2, rfl, rfl, hG2, is_fI (f := is_fO) (T := S2) hI hof (rfl) (by omega) hs2⟩) _ _ _ hP hD hS (lv_sub hl [0, 1, 2, 3, 4] rfl)
            · refine lv_istore_n (lv' := [(3, .int (nI 0)), (2, .int (acc + 1)), (4, .int (nI k)), (0, .ref (ha 0)), (1, .int mm)]) hx hb dX0_often_31 rfl hl (by decide) rfl (fun ls hl => ?_)
              refine lv_iinc (v := nI (k + 1)) (lv' := [(4, .int (nI (k + 1))), (3, .int (nI 0)), (2, .int (acc + 1)), (0, .ref (ha 0)), (1, .int mm)]) hx hb dX0_often_32 hl (k := 2) rfl (is_inc k) (by decide) rfl (fun ls hl => ?_)
              refine lv_goto (tgt := 11) hx hb dX0_often_35 (by decide) ?_
              exact ihlo fl1 (k + 1) _ _ _ _ _ _ (by omega) (by omega) hLk1 (Or.inr ⟨rfl, is_fI (f := is_fO) (T := 256) hI hof (rfl) (by omega) hs2⟩) _ _ _ hP hD hS (lv_sub hl [0, 1, 2, 3, 4] rfl)
      · refine lv_iload hx hb dX0_often_11 (lv_at hl 0 rfl) ?_
        refine lv_sipush (v := nI 256) hx hb dX0_often_13 (by decide) ?_
        refine is_icmp_ge (a := k) (b := 256) (tgt := 38) hx hb (by omega) (by omega) dX0_often_16 (by decide) (fun hk => ?_) (fun hk => ?_)
        · refine lv_iload_n hx hb dX0_often_38 rfl (lv_at hl 2 rfl) ?_
          exact W.iret (v := acc) hx hb hr (fun t ht hW => ⟨⟨acc, (nI n, fb, nI 1, fl1, st, fo, fc, dp), rfl, ⟨hI, fl1, st, fo, fc, dp, hLk1, rfl⟩, by rw [ht]; exact hP, va_K.moved hW.alike hK, hD⟩, hS.F ht⟩) hS.2.2 dX0_often_39
        · refine lv_iload_n hx hb dX0_often_19 rfl (lv_at hl 1 rfl) ?_
          refine is_if_eq (a := 0) (tgt := 38) hx hb (by omega) dX0_often_20 (by decide) (fun hz => ?_) (fun hz => ?_)
          · refine lv_iload_n hx hb dX0_often_38 rfl (lv_at hl 2 rfl) ?_
            exact W.iret (v := acc) hx hb hr (fun t ht hW => ⟨⟨acc, (nI n, fb, nI 1, fl1, st, fo, fc, dp), rfl, ⟨hI, fl1, st, fo, fc, dp, hLk1, rfl⟩, by rw [ht]; exact hP, va_K.moved hW.alike hK, hD⟩, hS.F ht⟩) hS.2.2 dX0_often_39
          · exact absurd rfl hz
  rcases hgo with ⟨rfl, S, fo1, fc1, hS8, -, hof, hs, hG, rfl⟩ | ⟨rfl, hs, st1, fo1, fc1, dp1, rfl⟩
  · refine lv_istore_n (lv' := [(3, .int (nI 1)), (2, .int (nI 0)), (0, .ref (ha 0)), (1, .int mm)]) hx hb dX0_often_7 rfl hl (by decide) rfl (fun ls hl => ?_)
    refine lv_iconst (v := nI 0) hx hb dX0_often_8 (by decide) ?_
    refine lv_istore (lv' := [(4, .int (nI 0)), (3, .int (nI 1)), (2, .int (nI 0)), (0, .ref (ha 0)), (1, .int mm)]) hx hb dX0_often_9 hl (by decide) rfl (fun ls hl => ?_)
    exact lo 257 fl' 0 _ _ _ _ _ _ (by omega) (by omega) hLk (Or.inl ⟨S, rfl, hS8, is_of_pos hof, hof, rfl, rfl, hG, (is_fld_skip (Nat.zero_le S) (fun s q1 q2 => hs s q1 q2)).symm⟩) _ _ _ hP hD hS (lv_sub hl [0, 1, 2, 3, 4] rfl)
  · refine lv_istore_n (lv' := [(3, .int (nI 0)), (2, .int (nI 0)), (0, .ref (ha 0)), (1, .int mm)]) hx hb dX0_often_7 rfl hl (by decide) rfl (fun ls hl => ?_)
    refine lv_iconst (v := nI 0) hx hb dX0_often_8 (by decide) ?_
    refine lv_istore (lv' := [(4, .int (nI 0)), (3, .int (nI 0)), (2, .int (nI 0)), (0, .ref (ha 0)), (1, .int mm)]) hx hb dX0_often_9 hl (by decide) rfl (fun ls hl => ?_)
    exact lo 257 fl' 0 _ _ _ _ _ _ (by omega) (by omega) hLk (Or.inr ⟨rfl, (is_fld_skip (Nat.zero_le 256) (fun s q1 q2 => hs s q1 q2)).symm⟩) _ _ _ hP hD hS (lv_sub hl [0, 1, 2, 3, 4] rfl)
set_option maxHeartbeats 4000000 in
set_option maxRecDepth 100000 in
/-- full(m) -/
theorem metX0_full (l : Launch) (dC : Nat → ClassId) (dI : Nat → Nat → Nat) (ha : Nat → Nat) (da : Nat → ClassId) (sz : Nat) (b : Nat → Nat) (n : Nat) (fb : Nat → Int32) (so : Int32) (fl : Nat → Int64) (st : Int32) (fo : Nat → Int64) (fc : Nat → Int32) (dp : Int32) (hn : n ≤ 40) (hbk : is_Bk fb n b) (hso : is_So b n so fl) (mm : Int32) : Met l yX0_full (ws_ yX0_full cX0_full 5 (some .int)) ({ frames := 4, cells := 0, slots := 0, locals := 90 }) (is_P dC dI (is_XT da) (is_XW ha da (nI n, fb, so, fl, st, fo, fc, dp)) sz [.ref (ha 0), .int mm]) (va_Qi (fun (r : Int32) (u' : is_US) => r = is_fld (is_of b n mm) (is_fF b n) 256 ∧ is_Fin b n fb u') (is_B dC dI (is_XT da) (is_XW ha da) (va_A (is_XW ha da (nI n, fb, so, fl, st, fo, fc, dp)) sz)) (va_A (is_XW ha da (nI n, fb, so, fl, st, fo, fc, dp)) sz)) 0 0 (va_A (is_XW ha da (nI n, fb, so, fl, st, fo, fc, dp)) sz) := by
  refine Met.ofW (cc := cX0_full) (maxL := 5) (ret := (some .int)) (by decide) rfl ?_
  intro p e s m args below meth c s₁ B hml hv
  obtain ⟨rfl, hsz, hP, hK, hD0⟩ := hv
  have hx := B.exec
  have hb := B.bytes
  have hr := B.returns
  have hts := atoms_spec (ws := (ws_ yX0_full cX0_full 5 (some .int))) B.pre
  have hts : ∀ w ∈ lw_all, w.before _ s = true := fun w h => hts w (List.mem_cons_of_mem _ h)
  have hown : s.vm.findClass RX0 = some m.cls := findClass_of_methodNamed B.named
  have hlocks := B.notSynchronized
  subst hsz
  have hD := hD0.self (sz := s.heap.size)
  generalize hAe : va_A (is_XW ha da (nI n, fb, so, fl, st, fo, fc, dp)) s.heap.size = A at hD ⊢
  have hA : ∀ q : Nat, s.heap.size ≤ q → A q := fun q h => by rw [← hAe]; exact Or.inr h
  have hS : va_S A s.heap s.heap [] := va_S.rf
  have hl := lv_entry ([.ref (ha 0), .int mm]) (n := 5) (Nat.le_of_ble_eq_true rfl)
  rw [lg_entry_eq]
  generalize (lg_sl ([.ref (ha 0), .int mm]) ++ List.replicate (5 - (lg_sl ([.ref (ha 0), .int mm])).length) Slot.unset).toArray = ls at hl ⊢
  have hl : lv_has ls 5 [(0, .ref (ha 0)), (1, .int mm)] := hl
  refine lv_iconst (v := nI 0) hx hb dX0_full_0 (by decide) ?_
  refine lv_istore_n (lv' := [(2, .int (nI 0)), (0, .ref (ha 0)), (1, .int mm)]) hx hb dX0_full_1 rfl hl (by decide) rfl (fun ls hl => ?_)
  refine lv_aload_n hx hb dX0_full_2 rfl (lv_at hl 1 rfl) ?_
  refine lv_iload_n hx hb dX0_full_3 rfl (lv_at hl 2 rfl) ?_
  refine is_cVi (Wd := is_XW ha da) (u := (nI n, fb, so, fl, st, fo, fc, dp)) (As := [.int mm]) (rest := []) (b := ha 0) ⟨hx, hb, hml, hown, hts⟩ (metX0_start l dC dI ha da _ b n fb so fl st fo fc dp hn hbk hso mm) (cwV 1 hts (lw_V q75 q77 qs2 q11 q78) rfl rfl rfl (by decide +kernel) ⟨Nat.le_of_ble_eq_true rfl, Nat.le_of_ble_eq_true rfl⟩) (va_recv hK hP (ci := 0) (q0 := 0) rfl rfl) hK hP hD hS hA rfl hl.1 rfl (Nat.le_of_ble_eq_true rfl) dX0_full_4 ⟨Nat.zero_le _, Nat.zero_le _⟩ (fun r u' H locs hw hP hD hS => ?_)
  obtain ⟨fl', hLk, hgo⟩ := hw
  have lo : ∀ (j : Nat) (fl1 : Nat → Int64) (k : Nat) (z acc st : Int32) (fo : Nat → Int64) (fc : Nat → Int32) (dp : Int32), 256 < k + j → k ≤ 256 → is_Lk b n fl1 → is_lp b n mm (fun S => acc = is_fld (is_of b n mm) (is_fF b n) S) k z st fo fc dp → ∀ (H : Heap) (locs : List Loc) (ls : Array Slot), va_P (dC, dI) is_cl (is_XW ha da (nI n, fb, nI 1, fl1, st, fo, fc, dp)) H → va_D A (is_XW ha da (nI n, fb, nI 1, fl1, st, fo, fc, dp)) → va_S A s.heap H locs → lv_has ls 5 [(4, .int (nI k)), (3, .int z), (2, .int acc), (0, .ref (ha 0)), (1, .int mm)] → W p l e (headSpec (ws_ yX0_full cX0_full 5 (some .int)) ({ frames := 4, cells := 0, slots := 0, locals := 90 })).room s m ([.ref (ha 0), .int mm] : List Value).toArray below meth c H locs 0 0 (MQ below (va_Qi (fun (r : Int32) (u' : is_US) => r = is_fld (is_of b n mm) (is_fF b n) 256 ∧ is_Fin b n fb u') (is_B dC dI (is_XT da) (is_XW ha da) A) A) ([.ref (ha 0), .int mm] : List Value).toArray s 0 0 A) (F0 m 11 ls []) := by
    intro j
    induction j with
    | zero => intro fl1 k z acc st fo fc dp h1 h2 hLk1 h3; omega
    | succ j ihlo =>
      intro fl1 k z acc st fo fc dp h1 h2 hLk1 h3 H locs ls hP hD hS hl
      rcases h3 with ⟨S, rfl, hS8, hkS, hof, rfl, rfl, hG, hI⟩ | ⟨rfl, hI⟩
      · refine lv_iload hx hb dX0_full_11 (lv_at hl 0 rfl) ?_
        refine lv_sipush (v := nI 256) hx hb dX0_full_13 (by decide) ?_
        refine is_icmp_ge (a := k) (b := 256) (tgt := 50) hx hb (by omega) (by omega) dX0_full_16 (by decide) (fun hk => ?_) (fun hk => ?_)
        · omega
        · refine lv_iload_n hx hb dX0_full_19 rfl (lv_at hl 1 rfl) ?_
          refine is_if_eq (a := 1) (tgt := 50) hx hb (by omega) dX0_full_20 (by decide) (fun hz => ?_) (fun hz => ?_)
          · exact absurd hz (by decide)
          · have hm1 := (is_of_iff.mp hof).1
            have hll := (is_ll_spec b n S 8).2.2
            refine lv_iload_n hx hb dX0_full_23 rfl (lv_at hl 2 rfl) ?_
            refine lv_aload_n hx hb dX0_full_24 rfl (lv_at hl 3 rfl) ?_
            refine is_cVi (Wd := is_XW ha da) (u := (nI n, fb, nI 1, fl1, nI S, fo, fc, nI 8)) (As := []) (rest := [.int acc]) (b := ha 0) ⟨hx, hb, hml, hown, hts⟩ (metX0_leastLoss l dC dI ha da _ b n fb (nI 1) fl1 S fo fc (nI 8) hn hLk1 hS8 (is_GI_leaf hG)) (cwV 0 hts (lw_V q91 q93 qs5 q11 q94) rfl rfl rfl (by decide +kernel) ⟨Nat.le_of_ble_eq_true rfl, Nat.le_of_ble_eq_true rfl⟩) (va_recv hK hP (ci := 0) (q0 := 0) rfl rfl) hK hP hD hS hA rfl hl.1 rfl (Nat.le_of_ble_eq_true rfl) dX0_full_25 ⟨Nat.zero_le _, Nat.zero_le _⟩ (fun r u' H locs hw hP hD hS => ?_)
            obtain ⟨rfl, rfl⟩ := hw
            have hP : va_P (dC, dI) is_cl (is_XW ha da (nI n, fb, nI 1, fl1, nI S, fo, fc, nI 8)) H := hP
            have hD : va_D A (is_XW ha da (nI n, fb, nI 1, fl1, nI S, fo, fc, nI 8)) := hD
            refine is_if_le (a := (is_ll b n S 8)) (tgt := 35) hx hb (by omega) dX0_full_28 (by decide) (fun hl0 => ?_) (fun hl0 => ?_)
            · refine lv_iconst (v := nI 0) hx hb dX0_full_35 (by decide) ?_
              refine lv_iadd hx hb dX0_full_36 ?_
              refine lv_istore_n (lv' := [(2, .int (acc + (nI 0))), (4, .int (nI k)), (3, .int (nI 1)), (0, .ref (ha 0)), (1, .int mm)]) hx hb dX0_full_37 rfl hl (by decide) rfl (fun ls hl => ?_)
              refine lv_aload_n hx hb dX0_full_38 rfl (lv_at hl 3 rfl) ?_
              refine lv_iload_n hx hb dX0_full_39 rfl (lv_at hl 4 rfl) ?_
              refine is_cVi (Wd := is_XW ha da) (u := (nI n, fb, nI 1, fl1, nI S, fo, fc, nI 8)) (As := [.int mm]) (rest := []) (b := ha 0) ⟨hx, hb, hml, hown, hts⟩ (metX0_goOn l dC dI ha da _ b n fb (nI 1) fl1 _ _ _ _ hn hLk1 mm hm1 (S + 1) (Or.inl ⟨S, rfl, rfl, rfl, hG⟩)) (cwV 1 hts (lw_V q79 q81 qs3 q11 q82) rfl rfl rfl (by decide +kernel) ⟨Nat.le_of_ble_eq_true rfl, Nat.le_of_ble_eq_true rfl⟩) (va_recv hK hP (ci := 0) (q0 := 0) rfl rfl) hK hP hD hS hA rfl hl.1 rfl (Nat.le_of_ble_eq_true rfl) dX0_full_40 ⟨Nat.zero_le _, Nat.zero_le _⟩ (fun r u' H locs hw hP hD hS => ?_)
              rcases hw with ⟨rfl, S2, fo2, fc2, hS2, hp2, hof2, hs2, hG2, rfl⟩ | ⟨rfl, hs2, st2, fo2, fc2, dp2, rfl⟩
              · refine lv_istore_n (lv' := [(3, .int (nI 1)), (2, .int (acc + (nI 0))), (4, .int (nI k)), (0, .ref (ha 0)), (1, .int mm)]) hx hb dX0_full_43 rfl hl (by decide) rfl (fun ls hl => ?_)
                refine lv_iinc (v := nI (k + 1)) (lv' := [(4, .int (nI (k + 1))), (3, .int (nI 1)), (2, .int (acc + (nI 0))), (0, .ref (ha 0)), (1, .int mm)]) hx hb dX0_full_44 hl (k := 2) rfl (is_inc k) (by decide) rfl (fun ls hl => ?_)
                refine lv_goto (tgt := 11) hx hb dX0_full_47 (by decide) ?_
                exact ihlo fl1 (k + 1) _ _ _ _ _ _ (by omega) (by omega) hLk1 (Or.inl ⟨S2, rfl, hS2, by omega, hof2, rfl, rfl, hG2, is_fI (f := is_fF b n) (T := S2) hI hof (by unfold is_fF; rw [if_neg (by omega)]) (by omega) hs2⟩) _ _ _ hP hD hS (lv_sub hl [0, 1, 2, 3, 4] rfl)
              · refine lv_istore_n (lv' := [(3, .int (nI 0)), (2, .int (acc + (nI 0))), (4, .int (nI k)), (0, .ref (ha 0)), (1, .int mm)]) hx hb dX0_full_43 rfl hl (by decide) rfl (fun ls hl => ?_)
                refine lv_iinc (v := nI (k + 1)) (lv' := [(4, .int (nI (k + 1))), (3, .int (nI 0)), (2, .int (acc + (nI 0))), (0, .ref (ha 0)), (1, .int mm)]) hx hb dX0_full_44 hl (k := 2) rfl (is_inc k) (by decide) rfl (fun ls hl => ?_)
                refine lv_goto (tgt := 11) hx hb dX0_full_47 (by decide) ?_
                exact ihlo fl1 (k + 1) _ _ _ _ _ _ (by omega) (by omega) hLk1 (Or.inr ⟨rfl, is_fI (f := is_fF b n) (T := 256) hI hof (by unfold is_fF; rw [if_neg (by omega)]) (by omega) hs2⟩) _ _ _ hP hD hS (lv_sub hl [0, 1, 2, 3, 4] rfl)
            · refine lv_iconst (v := nI 1) hx hb dX0_full_31 (by decide) ?_
              refine lv_goto (tgt := 36) hx hb dX0_full_32 (by decide) ?_
              refine lv_iadd hx hb dX0_full_36 ?_
              refine lv_istore_n (lv' := [(2, .int (acc + (nI 1))), (4, .int (nI k)), (3, .int (nI 1)), (0, .ref (ha 0)), (1, .int mm)]) hx hb dX0_full_37 rfl hl (by decide) rfl (fun ls hl => ?_)
              refine lv_aload_n hx hb dX0_full_38 rfl (lv_at hl 3 rfl) ?_
              refine lv_iload_n hx hb dX0_full_39 rfl (lv_at hl 4 rfl) ?_
              refine is_cVi (Wd := is_XW ha da) (u := (nI n, fb, nI 1, fl1, nI S, fo, fc, nI 8)) (As := [.int mm]) (rest := []) (b := ha 0) ⟨hx, hb, hml, hown, hts⟩ (metX0_goOn l dC dI ha da _ b n fb (nI 1) fl1 _ _ _ _ hn hLk1 mm hm1 (S + 1) (Or.inl ⟨S, rfl, rfl, rfl, hG⟩)) (cwV 1 hts (lw_V q79 q81 qs3 q11 q82) rfl rfl rfl (by decide +kernel) ⟨Nat.le_of_ble_eq_true rfl, Nat.le_of_ble_eq_true rfl⟩) (va_recv hK hP (ci := 0) (q0 := 0) rfl rfl) hK hP hD hS hA rfl hl.1 rfl (Nat.le_of_ble_eq_true rfl) dX0_full_40 ⟨Nat.zero_le _, Nat.zero_le _⟩ (fun r u' H locs hw hP hD hS => ?_)
              rcases hw with ⟨rfl, S2, fo2, fc2, hS2, hp2, hof2, hs2, hG2, rfl⟩ | ⟨rfl, hs2, st2, fo2, fc2, dp2, rfl⟩
              · refine lv_istore_n (lv' := [(3, .int (nI 1)), (2, .int (acc + (nI 1))), (4, .int (nI k)), (0, .ref (ha 0)), (1, .int mm)]) hx hb dX0_full_43 rfl hl (by decide) rfl (fun ls hl => ?_)
                refine lv_iinc (v := nI (k + 1)) (lv' := [(4, .int (nI (k + 1))), (3, .int (nI 1)), (2, .int (acc + (nI 1))), (0, .ref (ha 0)), (1, .int mm)]) hx hb dX0_full_44 hl (k := 2) rfl (is_inc k) (by decide) rfl (fun ls hl => ?_)
                refine lv_goto (tgt := 11) hx hb dX0_full_47 (by decide) ?_
                exact ihlo fl1 (k + 1) _ _ _ _ _ _ (by omega) (by omega) hLk1 (Or.inl ⟨S2, rfl, hS2, by omega, hof2, rfl, rfl, hG2, is_fI (f := is_fF b n) (T := S2) hI hof (by unfold is_fF; rw [if_pos hl0]) (by omega) hs2⟩) _ _ _ hP hD hS (lv_sub hl [0, 1, 2, 3, 4] rfl)
              · refine lv_istore_n (lv' := [(3, .int (nI 0)), (2, .int (acc + (nI 1))), (4, .int (nI k)), (0, .ref (ha 0)), (1, .int mm)]) hx hb dX0_full_43 rfl hl (by decide) rfl (fun ls hl => ?_)
                refine lv_iinc (v := nI (k + 1)) (lv' := [(4, .int (nI (k + 1))), (3, .int (nI 0)), (2, .int (acc + (nI 1))), (0, .ref (ha 0)), (1, .int mm)]) hx hb dX0_full_44 hl (k := 2) rfl (is_inc k) (by decide) rfl (fun ls hl => ?_)
                refine lv_goto (tgt := 11) hx hb dX0_full_47 (by decide) ?_
                exact ihlo fl1 (k + 1) _ _ _ _ _ _ (by omega) (by omega) hLk1 (Or.inr ⟨rfl, is_fI (f := is_fF b n) (T := 256) hI hof (by unfold is_fF; rw [if_pos hl0]) (by omega) hs2⟩) _ _ _ hP hD hS (lv_sub hl [0, 1, 2, 3, 4] rfl)
      · refine lv_iload hx hb dX0_full_11 (lv_at hl 0 rfl) ?_
        refine lv_sipush (v := nI 256) hx hb dX0_full_13 (by decide) ?_
        refine is_icmp_ge (a := k) (b := 256) (tgt := 50) hx hb (by omega) (by omega) dX0_full_16 (by decide) (fun hk => ?_) (fun hk => ?_)
        · refine lv_iload_n hx hb dX0_full_50 rfl (lv_at hl 2 rfl) ?_
          exact W.iret (v := acc) hx hb hr (fun t ht hW => ⟨⟨acc, (nI n, fb, nI 1, fl1, st, fo, fc, dp), rfl, ⟨hI, fl1, st, fo, fc, dp, hLk1, rfl⟩, by rw [ht]; exact hP, va_K.moved hW.alike hK, hD⟩, hS.F ht⟩) hS.2.2 dX0_full_51
        · refine lv_iload_n hx hb dX0_full_19 rfl (lv_at hl 1 rfl) ?_
          refine is_if_eq (a := 0) (tgt := 50) hx hb (by omega) dX0_full_20 (by decide) (fun hz => ?_) (fun hz => ?_)
          · refine lv_iload_n hx hb dX0_full_50 rfl (lv_at hl 2 rfl) ?_
            exact W.iret (v := acc) hx hb hr (fun t ht hW => ⟨⟨acc, (nI n, fb, nI 1, fl1, st, fo, fc, dp), rfl, ⟨hI, fl1, st, fo, fc, dp, hLk1, rfl⟩, by rw [ht]; exact hP, va_K.moved hW.alike hK, hD⟩, hS.F ht⟩) hS.2.2 dX0_full_51
          · exact absurd rfl hz
  rcases hgo with ⟨rfl, S, fo1, fc1, hS8, -, hof, hs, hG, rfl⟩ | ⟨rfl, hs, st1, fo1, fc1, dp1, rfl⟩
  · refine lv_istore_n (lv' := [(3, .int (nI 1)), (2, .int (nI 0)), (0, .ref (ha 0)), (1, .int mm)]) hx hb dX0_full_7 rfl hl (by decide) rfl (fun ls hl => ?_)
    refine lv_iconst (v := nI 0) hx hb dX0_full_8 (by decide) ?_
    refine lv_istore (lv' := [(4, .int (nI 0)), (3, .int (nI 1)), (2, .int (nI 0)), (0, .ref (ha 0)), (1, .int mm)]) hx hb dX0_full_9 hl (by decide) rfl (fun ls hl => ?_)
    exact lo 257 fl' 0 _ _ _ _ _ _ (by omega) (by omega) hLk (Or.inl ⟨S, rfl, hS8, is_of_pos hof, hof, rfl, rfl, hG, (is_fld_skip (Nat.zero_le S) (fun s q1 q2 => hs s q1 q2)).symm⟩) _ _ _ hP hD hS (lv_sub hl [0, 1, 2, 3, 4] rfl)
  · refine lv_istore_n (lv' := [(3, .int (nI 0)), (2, .int (nI 0)), (0, .ref (ha 0)), (1, .int mm)]) hx hb dX0_full_7 rfl hl (by decide) rfl (fun ls hl => ?_)
    refine lv_iconst (v := nI 0) hx hb dX0_full_8 (by decide) ?_
    refine lv_istore (lv' := [(4, .int (nI 0)), (3, .int (nI 0)), (2, .int (nI 0)), (0, .ref (ha 0)), (1, .int mm)]) hx hb dX0_full_9 hl (by decide) rfl (fun ls hl => ?_)
    exact lo 257 fl' 0 _ _ _ _ _ _ (by omega) (by omega) hLk (Or.inr ⟨rfl, (is_fld_skip (Nat.zero_le 256) (fun s q1 q2 => hs s q1 q2)).symm⟩) _ _ _ hP hD hS (lv_sub hl [0, 1, 2, 3, 4] rfl)
set_option maxHeartbeats 4000000 in
set_option maxRecDepth 100000 in
/-- largest(m) -/
theorem metX0_largest (l : Launch) (dC : Nat → ClassId) (dI : Nat → Nat → Nat) (ha : Nat → Nat) (da : Nat → ClassId) (sz : Nat) (b : Nat → Nat) (n : Nat) (fb : Nat → Int32) (so : Int32) (fl : Nat → Int64) (st : Int32) (fo : Nat → Int64) (fc : Nat → Int32) (dp : Int32) (hn : n ≤ 40) (hbk : is_Bk fb n b) (hso : is_So b n so fl) (mm : Int32) : Met l yX0_largest (ws_ yX0_largest cX0_largest 6 (some .int)) ({ frames := 4, cells := 0, slots := 0, locals := 90 }) (is_P dC dI (is_XT da) (is_XW ha da (nI n, fb, so, fl, st, fo, fc, dp)) sz [.ref (ha 0), .int mm]) (va_Qi (fun (r : Int32) (u' : is_US) => r = is_fld (is_of b n mm) (is_fL b n mm) 256 ∧ is_Fin b n fb u') (is_B dC dI (is_XT da) (is_XW ha da) (va_A (is_XW ha da (nI n, fb, so, fl, st, fo, fc, dp)) sz)) (va_A (is_XW ha da (nI n, fb, so, fl, st, fo, fc, dp)) sz)) 0 0 (va_A (is_XW ha da (nI n, fb, so, fl, st, fo, fc, dp)) sz) := by
  refine Met.ofW (cc := cX0_largest) (maxL := 6) (ret := (some .int)) (by decide) rfl ?_
  intro p e s m args below meth c s₁ B hml hv
  obtain ⟨rfl, hsz, hP, hK, hD0⟩ := hv
  have hx := B.exec
  have hb := B.bytes
  have hr := B.returns
  have hts := atoms_spec (ws := (ws_ yX0_largest cX0_largest 6 (some .int))) B.pre
  have hts : ∀ w ∈ lw_all, w.before _ s = true := fun w h => hts w (List.mem_cons_of_mem _ h)
  have hown : s.vm.findClass RX0 = some m.cls := findClass_of_methodNamed B.named
  have hlocks := B.notSynchronized
  subst hsz
  have hD := hD0.self (sz := s.heap.size)
  generalize hAe : va_A (is_XW ha da (nI n, fb, so, fl, st, fo, fc, dp)) s.heap.size = A at hD ⊢
  have hA : ∀ q : Nat, s.heap.size ≤ q → A q := fun q h => by rw [← hAe]; exact Or.inr h
  have hS : va_S A s.heap s.heap [] := va_S.rf
  have hl := lv_entry ([.ref (ha 0), .int mm]) (n := 6) (Nat.le_of_ble_eq_true rfl)
  rw [lg_entry_eq]
  generalize (lg_sl ([.ref (ha 0), .int mm]) ++ List.replicate (6 - (lg_sl ([.ref (ha 0), .int mm])).length) Slot.unset).toArray = ls at hl ⊢
  have hl : lv_has ls 6 [(0, .ref (ha 0)), (1, .int mm)] := hl
  refine lv_iconst (v := nI 0) hx hb dX0_largest_0 (by decide) ?_
  refine lv_istore_n (lv' := [(2, .int (nI 0)), (0, .ref (ha 0)), (1, .int mm)]) hx hb dX0_largest_1 rfl hl (by decide) rfl (fun ls hl => ?_)
  refine lv_aload_n hx hb dX0_largest_2 rfl (lv_at hl 1 rfl) ?_
  refine lv_iload_n hx hb dX0_largest_3 rfl (lv_at hl 2 rfl) ?_
  refine is_cVi (Wd := is_XW ha da) (u := (nI n, fb, so, fl, st, fo, fc, dp)) (As := [.int mm]) (rest := []) (b := ha 0) ⟨hx, hb, hml, hown, hts⟩ (metX0_start l dC dI ha da _ b n fb so fl st fo fc dp hn hbk hso mm) (cwV 1 hts (lw_V q75 q77 qs2 q11 q78) rfl rfl rfl (by decide +kernel) ⟨Nat.le_of_ble_eq_true rfl, Nat.le_of_ble_eq_true rfl⟩) (va_recv hK hP (ci := 0) (q0 := 0) rfl rfl) hK hP hD hS hA rfl hl.1 rfl (Nat.le_of_ble_eq_true rfl) dX0_largest_4 ⟨Nat.zero_le _, Nat.zero_le _⟩ (fun r u' H locs hw hP hD hS => ?_)
  obtain ⟨fl', hLk, hgo⟩ := hw
  have lo : ∀ (j : Nat) (fl1 : Nat → Int64) (k : Nat) (z acc st : Int32) (fo : Nat → Int64) (fc : Nat → Int32) (dp : Int32), 256 < k + j → k ≤ 256 → is_Lk b n fl1 → is_lp b n mm (fun S => acc = is_fld (is_of b n mm) (is_fL b n mm) S) k z st fo fc dp → ∀ (H : Heap) (locs : List Loc) (ls : Array Slot), va_P (dC, dI) is_cl (is_XW ha da (nI n, fb, nI 1, fl1, st, fo, fc, dp)) H → va_D A (is_XW ha da (nI n, fb, nI 1, fl1, st, fo, fc, dp)) → va_S A s.heap H locs → lv_has ls 6 [(4, .int (nI k)), (3, .int z), (2, .int acc), (0, .ref (ha 0)), (1, .int mm)] → W p l e (headSpec (ws_ yX0_largest cX0_largest 6 (some .int)) ({ frames := 4, cells := 0, slots := 0, locals := 90 })).room s m ([.ref (ha 0), .int mm] : List Value).toArray below meth c H locs 0 0 (MQ below (va_Qi (fun (r : Int32) (u' : is_US) => r = is_fld (is_of b n mm) (is_fL b n mm) 256 ∧ is_Fin b n fb u') (is_B dC dI (is_XT da) (is_XW ha da) A) A) ([.ref (ha 0), .int mm] : List Value).toArray s 0 0 A) (F0 m 11 ls []) := by
    intro j
    induction j with
    | zero => intro fl1 k z acc st fo fc dp h1 h2 hLk1 h3; omega
    | succ j ihlo =>
      intro fl1 k z acc st fo fc dp h1 h2 hLk1 h3 H locs ls hP hD hS hl
      rcases h3 with ⟨S, rfl, hS8, hkS, hof, rfl, rfl, hG, hI⟩ | ⟨rfl, hI⟩
      · refine lv_iload hx hb dX0_largest_11 (lv_at hl 0 rfl) ?_
        refine lv_sipush (v := nI 256) hx hb dX0_largest_13 (by decide) ?_
        refine is_icmp_ge (a := k) (b := 256) (tgt := 71) hx hb (by omega) (by omega) dX0_largest_16 (by decide) (fun hk => ?_) (fun hk => ?_)
        · omega
        · refine lv_iload_n hx hb dX0_largest_19 rfl (lv_at hl 1 rfl) ?_
          refine is_if_eq (a := 1) (tgt := 71) hx hb (by omega) dX0_largest_20 (by decide) (fun hz => ?_) (fun hz => ?_)
          · exact absurd hz (by decide)
          · have hm1 := (is_of_iff.mp hof).1
            refine lv_aload_n hx hb dX0_largest_23 rfl (lv_at hl 3 rfl) ?_
            refine va_get (D := (dC, dI)) (ci := 0) (v := .int (nI n)) (C := RX0) (T := TX0) (N := 8) hx hb hts in_X0 hown hK hP 0 rfl rfl 0 (by decide) (hts _ q21) (fun _ h9 => h9) rfl dX0_largest_24 ?_
            refine lv_aload_n hx hb dX0_largest_27 rfl (lv_at hl 3 rfl) ?_
            refine va_get (D := (dC, dI)) (ci := 0) (v := .ref (ha 3)) (C := RX0) (T := TX0) (N := 8) hx hb hts in_X0 hown hK hP 0 rfl rfl 5 (by decide) (hts _ q26) (fun _ h9 => h9) rfl dX0_largest_28 ?_
            refine lv_bipush (v := nI 8) hx hb dX0_largest_31 (by decide) ?_
            refine is_lald (f := fo) hx hb hK hP 3 2 rfl rfl (by omega) (by decide) dX0_largest_33 ?_
            refine is_cSi (As := [.long (fo 8)]) (rest := [.int (nI n)]) ⟨hx, hb, hml, hown, hts⟩ (metX0_ones l _) (va_cwS 1 hts (lw_S q68 q69 q11 q70) rfl rfl rfl (by decide +kernel) ⟨Nat.le_of_ble_eq_true rfl, Nat.le_of_ble_eq_true rfl⟩) hP hS rfl hl.1 rfl (Nat.le_of_ble_eq_true rfl) dX0_largest_34 ⟨Nat.zero_le _, Nat.zero_le _⟩ (fun r H locs hw hP hS => ?_)
            subst hw
            refine lv_isub hx hb dX0_largest_37 ?_
            refine is_ti (nI (is_sup b n S)) (is_left' hn (is_GI_leaf hG)) ?_
            refine lv_aload_n hx hb dX0_largest_38 rfl (lv_at hl 3 rfl) ?_
            refine is_cVi (Wd := is_XW ha da) (u := (nI n, fb, nI 1, fl1, nI S, fo, fc, nI 8)) (As := []) (rest := [.int (nI (is_sup b n S))]) (b := ha 0) ⟨hx, hb, hml, hown, hts⟩ (metX0_leastLoss l dC dI ha da _ b n fb (nI 1) fl1 S fo fc (nI 8) hn hLk1 hS8 (is_GI_leaf hG)) (cwV 0 hts (lw_V q91 q93 qs5 q11 q94) rfl rfl rfl (by decide +kernel) ⟨Nat.le_of_ble_eq_true rfl, Nat.le_of_ble_eq_true rfl⟩) (va_recv hK hP (ci := 0) (q0 := 0) rfl rfl) hK hP hD hS hA rfl hl.1 rfl (Nat.le_of_ble_eq_true rfl) dX0_largest_39 ⟨Nat.zero_le _, Nat.zero_le _⟩ (fun r u' H locs hw hP hD hS => ?_)
            obtain ⟨rfl, rfl⟩ := hw
            have hP : va_P (dC, dI) is_cl (is_XW ha da (nI n, fb, nI 1, fl1, nI S, fo, fc, nI 8)) H := hP
            have hD : va_D A (is_XW ha da (nI n, fb, nI 1, fl1, nI S, fo, fc, nI 8)) := hD
            refine lv_isub hx hb dX0_largest_42 ?_
            refine lv_istore (lv' := [(5, .int ((nI (is_sup b n S)) - (nI (is_ll b n S 8)))), (4, .int (nI k)), (3, .int (nI 1)), (2, .int acc), (0, .ref (ha 0)), (1, .int mm)]) hx hb dX0_largest_43 hl (by decide) rfl (fun ls hl => ?_)
            refine lv_iload_n hx hb dX0_largest_45 rfl (lv_at hl 3 rfl) ?_
            refine lv_iload hx hb dX0_largest_46 (lv_at hl 0 rfl) ?_
            refine lv_iload_n hx hb dX0_largest_48 rfl (lv_at hl 5 rfl) ?_
            refine lv_icmp_ge (tgt := 56) hx hb dX0_largest_49 (by decide) (fun hl0 => ?_) (fun hl0 => ?_)
            · refine lv_iconst (v := nI 0) hx hb dX0_largest_56 (by decide) ?_
              refine lv_iadd hx hb dX0_largest_57 ?_
              refine lv_istore_n (lv' := [(2, .int (acc + (nI 0))), (5, .int ((nI (is_sup b n S)) - (nI (is_ll b n S 8)))), (4, .int (nI k)), (3, .int (nI 1)), (0, .ref (ha 0)), (1, .int mm)]) hx hb dX0_largest_58 rfl hl (by decide) rfl (fun ls hl => ?_)
              refine lv_aload_n hx hb dX0_largest_59 rfl (lv_at hl 4 rfl) ?_
              refine lv_iload_n hx hb dX0_largest_60 rfl (lv_at hl 5 rfl) ?_
              refine is_cVi (Wd := is_XW ha da) (u := (nI n, fb, nI 1, fl1, nI S, fo, fc, nI 8)) (As := [.int mm]) (rest := []) (b := ha 0) ⟨hx, hb, hml, hown, hts⟩ (metX0_goOn l dC dI ha da _ b n fb (nI 1) fl1 _ _ _ _ hn hLk1 mm hm1 (S + 1) (Or.inl ⟨S, rfl, rfl, rfl, hG⟩)) (cwV 1 hts (lw_V q79 q81 qs3 q11 q82) rfl rfl rfl (by decide +kernel) ⟨Nat.le_of_ble_eq_true rfl, Nat.le_of_ble_eq_true rfl⟩) (va_recv hK hP (ci := 0) (q0 := 0) rfl rfl) hK hP hD hS hA rfl hl.1 rfl (Nat.le_of_ble_eq_true rfl) dX0_largest_61 ⟨Nat.zero_le _, Nat.zero_le _⟩ (fun r u' H locs hw hP hD hS => ?_)
              rcases hw with ⟨rfl, S2, fo2, fc2, hS2, hp2, hof2, hs2, hG2, rfl⟩ | ⟨rfl, hs2, st2, fo2, fc2, dp2, rfl⟩
              · refine lv_istore_n (lv' := [(3, .int (nI 1)), (2, .int (acc + (nI 0))), (5, .int ((nI (is_sup b n S)) - (nI (is_ll b n S 8)))), (4, .int (nI k)), (0, .ref (ha 0)), (1, .int mm)]) hx hb dX0_largest_64 rfl hl (by decide) rfl (fun ls hl => ?_)
                refine lv_iinc (v := nI (k + 1)) (lv' := [(4, .int (nI (k + 1))), (3, .int (nI 1)), (2, .int (acc + (nI 0))), (5, .int ((nI (is_sup b n S)) - (nI (is_ll b n S 8)))), (0, .ref (ha 0)), (1, .int mm)]) hx hb dX0_largest_65 hl (k := 3) rfl (is_inc k) (by decide) rfl (fun ls hl => ?_)
                refine lv_goto (tgt := 11) hx hb dX0_largest_68 (by decide) ?_
                exact ihlo fl1 (k + 1) _ _ _ _ _ _ (by omega) (by omega) hLk1 (Or.inl ⟨S2, rfl, hS2, by omega, hof2, rfl, rfl, hG2, is_fI (f := is_fL b n mm) (T := S2) hI hof (by unfold is_fL; rw [if_neg (fun q => is_not_le.mpr q hl0)]) (by omega) hs2⟩) _ _ _ hP hD hS (lv_sub hl [0, 1, 2, 4, 5] rfl)
              · refine lv_istore_n (lv' := [(3, .int (nI 0)), (2, .int (acc + (nI 0))), (5, .int ((nI (is_sup b n S)) - (nI (is_ll b n S 8)))), (4, .int (nI k)), (0, .ref (ha 0)), (1, .int mm)]) hx hb dX0_largest_64 rfl hl (by decide) rfl (fun ls hl => ?_)
                refine lv_iinc (v := nI (k + 1)) (lv' := [(4, .int (nI (k + 1))), (3, .int (nI 0)), (2, .int (acc + (nI 0))), (5, .int ((nI (is_sup b n S)) - (nI (is_ll b n S 8)))), (0, .ref (ha 0)), (1, .int mm)]) hx hb dX0_largest_65 hl (k := 3) rfl (is_inc k) (by decide) rfl (fun ls hl => ?_)
                refine lv_goto (tgt := 11) hx hb dX0_largest_68 (by decide) ?_
                exact ihlo fl1 (k + 1) _ _ _ _ _ _ (by omega) (by omega) hLk1 (Or.inr ⟨rfl, is_fI (f := is_fL b n mm) (T := 256) hI hof (by unfold is_fL; rw [if_neg (fun q => is_not_le.mpr q hl0)]) (by omega) hs2⟩) _ _ _ hP hD hS (lv_sub hl [0, 1, 2, 4, 5] rfl)
            · refine lv_iconst (v := nI 1) hx hb dX0_largest_52 (by decide) ?_
              refine lv_goto (tgt := 57) hx hb dX0_largest_53 (by decide) ?_
              refine lv_iadd hx hb dX0_largest_57 ?_
              refine lv_istore_n (lv' := [(2, .int (acc + (nI 1))), (5, .int ((nI (is_sup b n S)) - (nI (is_ll b n S 8)))), (4, .int (nI k)), (3, .int (nI 1)), (0, .ref (ha 0)), (1, .int mm)]) hx hb dX0_largest_58 rfl hl (by decide) rfl (fun ls hl => ?_)
              refine lv_aload_n hx hb dX0_largest_59 rfl (lv_at hl 4 rfl) ?_
              refine lv_iload_n hx hb dX0_largest_60 rfl (lv_at hl 5 rfl) ?_
              refine is_cVi (Wd := is_XW ha da) (u := (nI n, fb, nI 1, fl1, nI S, fo, fc, nI 8)) (As := [.int mm]) (rest := []) (b := ha 0) ⟨hx, hb, hml, hown, hts⟩ (metX0_goOn l dC dI ha da _ b n fb (nI 1) fl1 _ _ _ _ hn hLk1 mm hm1 (S + 1) (Or.inl ⟨S, rfl, rfl, rfl, hG⟩)) (cwV 1 hts (lw_V q79 q81 qs3 q11 q82) rfl rfl rfl (by decide +kernel) ⟨Nat.le_of_ble_eq_true rfl, Nat.le_of_ble_eq_true rfl⟩) (va_recv hK hP (ci := 0) (q0 := 0) rfl rfl) hK hP hD hS hA rfl hl.1 rfl (Nat.le_of_ble_eq_true rfl) dX0_largest_61 ⟨Nat.zero_le _, Nat.zero_le _⟩ (fun r u' H locs hw hP hD hS => ?_)
              rcases hw with ⟨rfl, S2, fo2, fc2, hS2, hp2, hof2, hs2, hG2, rfl⟩ | ⟨rfl, hs2, st2, fo2, fc2, dp2, rfl⟩
              · refine lv_istore_n (lv' := [(3, .int (nI 1)), (2, .int (acc + (nI 1))), (5, .int ((nI (is_sup b n S)) - (nI (is_ll b n S 8)))), (4, .int (nI k)), (0, .ref (ha 0)), (1, .int mm)]) hx hb dX0_largest_64 rfl hl (by decide) rfl (fun ls hl => ?_)
                refine lv_iinc (v := nI (k + 1)) (lv' := [(4, .int (nI (k + 1))), (3, .int (nI 1)), (2, .int (acc + (nI 1))), (5, .int ((nI (is_sup b n S)) - (nI (is_ll b n S 8)))), (0, .ref (ha 0)), (1, .int mm)]) hx hb dX0_largest_65 hl (k := 3) rfl (is_inc k) (by decide) rfl (fun ls hl => ?_)
                refine lv_goto (tgt := 11) hx hb dX0_largest_68 (by decide) ?_
                exact ihlo fl1 (k + 1) _ _ _ _ _ _ (by omega) (by omega) hLk1 (Or.inl ⟨S2, rfl, hS2, by omega, hof2, rfl, rfl, hG2, is_fI (f := is_fL b n mm) (T := S2) hI hof (by unfold is_fL; rw [if_pos (is_not_le.mp hl0)]) (by omega) hs2⟩) _ _ _ hP hD hS (lv_sub hl [0, 1, 2, 4, 5] rfl)
              · refine lv_istore_n (lv' := [(3, .int (nI 0)), (2, .int (acc + (nI 1))), (5, .int ((nI (is_sup b n S)) - (nI (is_ll b n S 8)))), (4, .int (nI k)), (0, .ref (ha 0)), (1, .int mm)]) hx hb dX0_largest_64 rfl hl (by decide) rfl (fun ls hl => ?_)
                refine lv_iinc (v := nI (k + 1)) (lv' := [(4, .int (nI (k + 1))), (3, .int (nI 0)), (2, .int (acc + (nI 1))), (5, .int ((nI (is_sup b n S)) - (nI (is_ll b n S 8)))), (0, .ref (ha 0)), (1, .int mm)]) hx hb dX0_largest_65 hl (k := 3) rfl (is_inc k) (by decide) rfl (fun ls hl => ?_)
                refine lv_goto (tgt := 11) hx hb dX0_largest_68 (by decide) ?_
                exact ihlo fl1 (k + 1) _ _ _ _ _ _ (by omega) (by omega) hLk1 (Or.inr ⟨rfl, is_fI (f := is_fL b n mm) (T := 256) hI hof (by unfold is_fL; rw [if_pos (is_not_le.mp hl0)]) (by omega) hs2⟩) _ _ _ hP hD hS (lv_sub hl [0, 1, 2, 4, 5] rfl)
      · refine lv_iload hx hb dX0_largest_11 (lv_at hl 0 rfl) ?_
        refine lv_sipush (v := nI 256) hx hb dX0_largest_13 (by decide) ?_
        refine is_icmp_ge (a := k) (b := 256) (tgt := 71) hx hb (by omega) (by omega) dX0_largest_16 (by decide) (fun hk => ?_) (fun hk => ?_)
        · refine lv_iload_n hx hb dX0_largest_71 rfl (lv_at hl 2 rfl) ?_
          exact W.iret (v := acc) hx hb hr (fun t ht hW => ⟨⟨acc, (nI n, fb, nI 1, fl1, st, fo, fc, dp), rfl, ⟨hI, fl1, st, fo, fc, dp, hLk1, rfl⟩, by rw [ht]; exact hP, va_K.moved hW.alike hK, hD⟩, hS.F ht⟩) hS.2.2 dX0_largest_72
        · refine lv_iload_n hx hb dX0_largest_19 rfl (lv_at hl 1 rfl) ?_
          refine is_if_eq (a := 0) (tgt := 71) hx hb (by omega) dX0_largest_20 (by decide) (fun hz => ?_) (fun hz => ?_)
          · refine lv_iload_n hx hb dX0_largest_71 rfl (lv_at hl 2 rfl) ?_
            exact W.iret (v := acc) hx hb hr (fun t ht hW => ⟨⟨acc, (nI n, fb, nI 1, fl1, st, fo, fc, dp), rfl, ⟨hI, fl1, st, fo, fc, dp, hLk1, rfl⟩, by rw [ht]; exact hP, va_K.moved hW.alike hK, hD⟩, hS.F ht⟩) hS.2.2 dX0_largest_72
          · exact absurd rfl hz
  rcases hgo with ⟨rfl, S, fo1, fc1, hS8, -, hof, hs, hG, rfl⟩ | ⟨rfl, hs, st1, fo1, fc1, dp1, rfl⟩
  · refine lv_istore_n (lv' := [(3, .int (nI 1)), (2, .int (nI 0)), (0, .ref (ha 0)), (1, .int mm)]) hx hb dX0_largest_7 rfl hl (by decide) rfl (fun ls hl => ?_)
    refine lv_iconst (v := nI 0) hx hb dX0_largest_8 (by decide) ?_
    refine lv_istore (lv' := [(4, .int (nI 0)), (3, .int (nI 1)), (2, .int (nI 0)), (0, .ref (ha 0)), (1, .int mm)]) hx hb dX0_largest_9 hl (by decide) rfl (fun ls hl => ?_)
    exact lo 257 fl' 0 _ _ _ _ _ _ (by omega) (by omega) hLk (Or.inl ⟨S, rfl, hS8, is_of_pos hof, hof, rfl, rfl, hG, (is_fld_skip (Nat.zero_le S) (fun s q1 q2 => hs s q1 q2)).symm⟩) _ _ _ hP hD hS (lv_sub hl [0, 1, 2, 3, 4] rfl)
  · refine lv_istore_n (lv' := [(3, .int (nI 0)), (2, .int (nI 0)), (0, .ref (ha 0)), (1, .int mm)]) hx hb dX0_largest_7 rfl hl (by decide) rfl (fun ls hl => ?_)
    refine lv_iconst (v := nI 0) hx hb dX0_largest_8 (by decide) ?_
    refine lv_istore (lv' := [(4, .int (nI 0)), (3, .int (nI 0)), (2, .int (nI 0)), (0, .ref (ha 0)), (1, .int mm)]) hx hb dX0_largest_9 hl (by decide) rfl (fun ls hl => ?_)
    exact lo 257 fl' 0 _ _ _ _ _ _ (by omega) (by omega) hLk (Or.inr ⟨rfl, (is_fld_skip (Nat.zero_le 256) (fun s q1 q2 => hs s q1 q2)).symm⟩) _ _ _ hP hD hS (lv_sub hl [0, 1, 2, 3, 4] rfl)
set_option maxHeartbeats 4000000 in
set_option maxRecDepth 100000 in
/-- size(m) -/
theorem metX0_size (l : Launch) (dC : Nat → ClassId) (dI : Nat → Nat → Nat) (ha : Nat → Nat) (da : Nat → ClassId) (sz : Nat) (b : Nat → Nat) (n : Nat) (fb : Nat → Int32) (so : Int32) (fl : Nat → Int64) (st : Int32) (fo : Nat → Int64) (fc : Nat → Int32) (dp : Int32) (hn : n ≤ 40) (hbk : is_Bk fb n b) (hso : is_So b n so fl) (mm : Int32) : Met l yX0_size (ws_ yX0_size cX0_size 6 (some .int)) ({ frames := 4, cells := 0, slots := 0, locals := 90 }) (is_P dC dI (is_XT da) (is_XW ha da (nI n, fb, so, fl, st, fo, fc, dp)) sz [.ref (ha 0), .int mm]) (va_Qi (fun (r : Int32) (u' : is_US) => r = is_fld (is_of b n mm) is_fS 256 ∧ is_Fin b n fb u') (is_B dC dI (is_XT da) (is_XW ha da) (va_A (is_XW ha da (nI n, fb, so, fl, st, fo, fc, dp)) sz)) (va_A (is_XW ha da (nI n, fb, so, fl, st, fo, fc, dp)) sz)) 0 0 (va_A (is_XW ha da (nI n, fb, so, fl, st, fo, fc, dp)) sz) := by
  refine Met.ofW (cc := cX0_size) (maxL := 6) (ret := (some .int)) (by decide) rfl ?_
  intro p e s m args below meth c s₁ B hml hv
  obtain ⟨rfl, hsz, hP, hK, hD0⟩ := hv
  have hx := B.exec
  have hb := B.bytes
  have hr := B.returns
  have hts := atoms_spec (ws := (ws_ yX0_size cX0_size 6 (some .int))) B.pre
  have hts : ∀ w ∈ lw_all, w.before _ s = true := fun w h => hts w (List.mem_cons_of_mem _ h)
  have hown : s.vm.findClass RX0 = some m.cls := findClass_of_methodNamed B.named
  have hlocks := B.notSynchronized
  subst hsz
  have hD := hD0.self (sz := s.heap.size)
  generalize hAe : va_A (is_XW ha da (nI n, fb, so, fl, st, fo, fc, dp)) s.heap.size = A at hD ⊢
  have hA : ∀ q : Nat, s.heap.size ≤ q → A q := fun q h => by rw [← hAe]; exact Or.inr h
  have hS : va_S A s.heap s.heap [] := va_S.rf
  have hl := lv_entry ([.ref (ha 0), .int mm]) (n := 6) (Nat.le_of_ble_eq_true rfl)
  rw [lg_entry_eq]
  generalize (lg_sl ([.ref (ha 0), .int mm]) ++ List.replicate (6 - (lg_sl ([.ref (ha 0), .int mm])).length) Slot.unset).toArray = ls at hl ⊢
  have hl : lv_has ls 6 [(0, .ref (ha 0)), (1, .int mm)] := hl
  refine lv_iconst (v := nI 0) hx hb dX0_size_0 (by decide) ?_
  refine lv_istore_n (lv' := [(2, .int (nI 0)), (0, .ref (ha 0)), (1, .int mm)]) hx hb dX0_size_1 rfl hl (by decide) rfl (fun ls hl => ?_)
  refine lv_aload_n hx hb dX0_size_2 rfl (lv_at hl 1 rfl) ?_
  refine lv_iload_n hx hb dX0_size_3 rfl (lv_at hl 2 rfl) ?_
  refine is_cVi (Wd := is_XW ha da) (u := (nI n, fb, so, fl, st, fo, fc, dp)) (As := [.int mm]) (rest := []) (b := ha 0) ⟨hx, hb, hml, hown, hts⟩ (metX0_start l dC dI ha da _ b n fb so fl st fo fc dp hn hbk hso mm) (cwV 1 hts (lw_V q75 q77 qs2 q11 q78) rfl rfl rfl (by decide +kernel) ⟨Nat.le_of_ble_eq_true rfl, Nat.le_of_ble_eq_true rfl⟩) (va_recv hK hP (ci := 0) (q0 := 0) rfl rfl) hK hP hD hS hA rfl hl.1 rfl (Nat.le_of_ble_eq_true rfl) dX0_size_4 ⟨Nat.zero_le _, Nat.zero_le _⟩ (fun r u' H locs hw hP hD hS => ?_)
  obtain ⟨fl', hLk, hgo⟩ := hw
  have lo : ∀ (j : Nat) (fl1 : Nat → Int64) (k : Nat) (z acc st : Int32) (fo : Nat → Int64) (fc : Nat → Int32) (dp : Int32), 256 < k + j → k ≤ 256 → is_Lk b n fl1 → is_lp b n mm (fun S => acc = is_fld (is_of b n mm) is_fS S) k z st fo fc dp → ∀ (H : Heap) (locs : List Loc) (ls : Array Slot), va_P (dC, dI) is_cl (is_XW ha da (nI n, fb, nI 1, fl1, st, fo, fc, dp)) H → va_D A (is_XW ha da (nI n, fb, nI 1, fl1, st, fo, fc, dp)) → va_S A s.heap H locs → lv_has ls 6 [(4, .int (nI k)), (3, .int z), (2, .int acc), (0, .ref (ha 0)), (1, .int mm)] → W p l e (headSpec (ws_ yX0_size cX0_size 6 (some .int)) ({ frames := 4, cells := 0, slots := 0, locals := 90 })).room s m ([.ref (ha 0), .int mm] : List Value).toArray below meth c H locs 0 0 (MQ below (va_Qi (fun (r : Int32) (u' : is_US) => r = is_fld (is_of b n mm) is_fS 256 ∧ is_Fin b n fb u') (is_B dC dI (is_XT da) (is_XW ha da) A) A) ([.ref (ha 0), .int mm] : List Value).toArray s 0 0 A) (F0 m 11 ls []) := by
    intro j
    induction j with
    | zero => intro fl1 k z acc st fo fc dp h1 h2 hLk1 h3; omega
    | succ j ihlo =>
      intro fl1 k z acc st fo fc dp h1 h2 hLk1 h3 H locs ls hP hD hS hl
      rcases h3 with ⟨S, rfl, hS8, hkS, hof, rfl, rfl, hG, hI⟩ | ⟨rfl, hI⟩
      · refine lv_iload hx hb dX0_size_11 (lv_at hl 0 rfl) ?_
        refine lv_sipush (v := nI 256) hx hb dX0_size_13 (by decide) ?_
        refine is_icmp_ge (a := k) (b := 256) (tgt := 58) hx hb (by omega) (by omega) dX0_size_16 (by decide) (fun hk => ?_) (fun hk => ?_)
        · omega
        · refine lv_iload_n hx hb dX0_size_19 rfl (lv_at hl 1 rfl) ?_
          refine is_if_eq (a := 1) (tgt := 58) hx hb (by omega) dX0_size_20 (by decide) (fun hz => ?_) (fun hz => ?_)
          · exact absurd hz (by decide)
          · have hm1 := (is_of_iff.mp hof).1
            refine lv_aload_n hx hb dX0_size_23 rfl (lv_at hl 3 rfl) ?_
            refine va_get (D := (dC, dI)) (ci := 0) (v := .int (nI S)) (C := RX0) (T := TX0) (N := 8) hx hb hts in_X0 hown hK hP 0 rfl rfl 4 (by decide) (hts _ q25) (fun _ h9 => h9) rfl dX0_size_24 ?_
            refine lv_i2l (v := (nI S).toInt64) hx hb dX0_size_27 rfl ?_
            refine is_cSi (As := [.long ((nI S).toInt64)]) (rest := []) ⟨hx, hb, hml, hown, hts⟩ (metX0_ones l _) (va_cwS 1 hts (lw_S q68 q69 q11 q70) rfl rfl rfl (by decide +kernel) ⟨Nat.le_of_ble_eq_true rfl, Nat.le_of_ble_eq_true rfl⟩) hP hS rfl hl.1 rfl (Nat.le_of_ble_eq_true rfl) dX0_size_28 ⟨Nat.zero_le _, Nat.zero_le _⟩ (fun r H locs hw hP hS => ?_)
            subst hw
            refine is_ti (nI (is_pc S)) (by rw [is_pc64 hS8]) ?_
            refine lv_istore (lv' := [(5, .int (nI (is_pc S))), (4, .int (nI k)), (3, .int (nI 1)), (2, .int acc), (0, .ref (ha 0)), (1, .int mm)]) hx hb dX0_size_31 hl (by decide) rfl (fun ls hl => ?_)
            refine lv_iload hx hb dX0_size_33 (lv_at hl 0 rfl) ?_
            refine lv_iload_n hx hb dX0_size_35 rfl (lv_at hl 3 rfl) ?_
            refine lv_icmp_le (tgt := 44) hx hb dX0_size_36 (by decide) (fun hl0 => ?_) (fun hl0 => ?_)
            · refine lv_iload_n hx hb dX0_size_44 rfl (lv_at hl 3 rfl) ?_
              refine lv_istore_n (lv' := [(2, .int acc), (5, .int (nI (is_pc S))), (4, .int (nI k)), (3, .int (nI 1)), (0, .ref (ha 0)), (1, .int mm)]) hx hb dX0_size_45 rfl hl (by decide) rfl (fun ls hl => ?_)
              refine lv_aload_n hx hb dX0_size_46 rfl (lv_at hl 4 rfl) ?_
              refine lv_iload_n hx hb dX0_size_47 rfl (lv_at hl 5 rfl) ?_
              refine is_cVi (Wd := is_XW ha da) (u := (nI n, fb, nI 1, fl1, nI S, fo, fc, nI 8)) (As := [.int mm]) (rest := []) (b := ha 0) ⟨hx, hb, hml, hown, hts⟩ (metX0_goOn l dC dI ha da _ b n fb (nI 1) fl1 _ _ _ _ hn hLk1 mm hm1 (S + 1) (Or.inl ⟨S, rfl, rfl, rfl, hG⟩)) (cwV 1 hts (lw_V q79 q81 qs3 q11 q82) rfl rfl rfl (by decide +kernel) ⟨Nat.le_of_ble_eq_true rfl, Nat.le_of_ble_eq_true rfl⟩) (va_recv hK hP (ci := 0) (q0 := 0) rfl rfl) hK hP hD hS hA rfl hl.1 rfl (Nat.le_of_ble_eq_true rfl) dX0_size_48 ⟨Nat.zero_le _, Nat.zero_le _⟩ (fun r u' H locs hw hP hD hS => ?_)
              rcases hw with ⟨rfl, S2, fo2, fc2, hS2, hp2, hof2, hs2, hG2, rfl⟩ | ⟨rfl, hs2, st2, fo2, fc2, dp2, rfl⟩
              · refine lv_istore_n (lv' := [(3, .int (nI 1)), (2, .int acc), (5, .int (nI (is_pc S))), (4, .int (nI k)), (0, .ref (ha 0)), (1, .int mm)]) hx hb dX0_size_51 rfl hl (by decide) rfl (fun ls hl => ?_)
                refine lv_iinc (v := nI (k + 1)) (lv' := [(4, .int (nI (k + 1))), (3, .int (nI 1)), (2, .int acc), (5, .int (nI (is_pc S))), (0, .ref (ha 0)), (1, .int mm)]) hx hb dX0_size_52 hl (k := 3) rfl (is_inc k) (by decide) rfl (fun ls hl => ?_)
                refine lv_goto (tgt := 11) hx hb dX0_size_55 (by decide) ?_
                exact ihlo fl1 (k + 1) _ _ _ _ _ _ (by omega) (by omega) hLk1 (Or.inl ⟨S2, rfl, hS2, by omega, hof2, rfl, rfl, hG2, is_fI (f := is_fS) (T := S2) hI hof (by unfold is_fS; rw [if_pos hl0]) (by omega) hs2⟩) _ _ _ hP hD hS (lv_sub hl [0, 1, 2, 4, 5] rfl)
              · refine lv_istore_n (lv' := [(3, .int (nI 0)), (2, .int acc), (5, .int (nI (is_pc S))), (4, .int (nI k)), (0, .ref (ha 0)), (1, .int mm)]) hx hb dX0_size_51 rfl hl (by decide) rfl (fun ls hl => ?_)
                refine lv_iinc (v := nI (k + 1)) (lv' := [(4, .int (nI (k + 1))), (3, .int (nI 0)), (2, .int acc), (5, .int (nI (is_pc S))), (0, .ref (ha 0)), (1, .int mm)]) hx hb dX0_size_52 hl (k := 3) rfl (is_inc k) (by decide) rfl (fun ls hl => ?_)
                refine lv_goto (tgt := 11) hx hb dX0_size_55 (by decide) ?_
                exact ihlo fl1 (k + 1) _ _ _ _ _ _ (by omega) (by omega) hLk1 (Or.inr ⟨rfl, is_fI (f := is_fS) (T := 256) hI hof (by unfold is_fS; rw [if_pos hl0]) (by omega) hs2⟩) _ _ _ hP hD hS (lv_sub hl [0, 1, 2, 4, 5] rfl)
            · refine lv_iload hx hb dX0_size_39 (lv_at hl 0 rfl) ?_
              refine lv_goto (tgt := 45) hx hb dX0_size_41 (by decide) ?_
              refine lv_istore_n (lv' := [(2, .int (nI (is_pc S))), (5, .int (nI (is_pc S))), (4, .int (nI k)), (3, .int (nI 1)), (0, .ref (ha 0)), (1, .int mm)]) hx hb dX0_size_45 rfl hl (by decide) rfl (fun ls hl => ?_)
              refine lv_aload_n hx hb dX0_size_46 rfl (lv_at hl 4 rfl) ?_
              refine lv_iload_n hx hb dX0_size_47 rfl (lv_at hl 5 rfl) ?_
              refine is_cVi (Wd := is_XW ha da) (u := (nI n, fb, nI 1, fl1, nI S, fo, fc, nI 8)) (As := [.int mm]) (rest := []) (b := ha 0) ⟨hx, hb, hml, hown, hts⟩ (metX0_goOn l dC dI ha da _ b n fb (nI 1) fl1 _ _ _ _ hn hLk1 mm hm1 (S + 1) (Or.inl ⟨S, rfl, rfl, rfl, hG⟩)) (cwV 1 hts (lw_V q79 q81 qs3 q11 q82) rfl rfl rfl (by decide +kernel) ⟨Nat.le_of_ble_eq_true rfl, Nat.le_of_ble_eq_true rfl⟩) (va_recv hK hP (ci := 0) (q0 := 0) rfl rfl) hK hP hD hS hA rfl hl.1 rfl (Nat.le_of_ble_eq_true rfl) dX0_size_48 ⟨Nat.zero_le _, Nat.zero_le _⟩ (fun r u' H locs hw hP hD hS => ?_)
              rcases hw with ⟨rfl, S2, fo2, fc2, hS2, hp2, hof2, hs2, hG2, rfl⟩ | ⟨rfl, hs2, st2, fo2, fc2, dp2, rfl⟩
              · refine lv_istore_n (lv' := [(3, .int (nI 1)), (2, .int (nI (is_pc S))), (5, .int (nI (is_pc S))), (4, .int (nI k)), (0, .ref (ha 0)), (1, .int mm)]) hx hb dX0_size_51 rfl hl (by decide) rfl (fun ls hl => ?_)
                refine lv_iinc (v := nI (k + 1)) (lv' := [(4, .int (nI (k + 1))), (3, .int (nI 1)), (2, .int (nI (is_pc S))), (5, .int (nI (is_pc S))), (0, .ref (ha 0)), (1, .int mm)]) hx hb dX0_size_52 hl (k := 3) rfl (is_inc k) (by decide) rfl (fun ls hl => ?_)
                refine lv_goto (tgt := 11) hx hb dX0_size_55 (by decide) ?_
                exact ihlo fl1 (k + 1) _ _ _ _ _ _ (by omega) (by omega) hLk1 (Or.inl ⟨S2, rfl, hS2, by omega, hof2, rfl, rfl, hG2, is_fI (f := is_fS) (T := S2) hI hof (by unfold is_fS; rw [if_neg hl0]) (by omega) hs2⟩) _ _ _ hP hD hS (lv_sub hl [0, 1, 2, 4, 5] rfl)
              · refine lv_istore_n (lv' := [(3, .int (nI 0)), (2, .int (nI (is_pc S))), (5, .int (nI (is_pc S))), (4, .int (nI k)), (0, .ref (ha 0)), (1, .int mm)]) hx hb dX0_size_51 rfl hl (by decide) rfl (fun ls hl => ?_)
                refine lv_iinc (v := nI (k + 1)) (lv' := [(4, .int (nI (k + 1))), (3, .int (nI 0)), (2, .int (nI (is_pc S))), (5, .int (nI (is_pc S))), (0, .ref (ha 0)), (1, .int mm)]) hx hb dX0_size_52 hl (k := 3) rfl (is_inc k) (by decide) rfl (fun ls hl => ?_)
                refine lv_goto (tgt := 11) hx hb dX0_size_55 (by decide) ?_
                exact ihlo fl1 (k + 1) _ _ _ _ _ _ (by omega) (by omega) hLk1 (Or.inr ⟨rfl, is_fI (f := is_fS) (T := 256) hI hof (by unfold is_fS; rw [if_neg hl0]) (by omega) hs2⟩) _ _ _ hP hD hS (lv_sub hl [0, 1, 2, 4, 5] rfl)
      · refine lv_iload hx hb dX0_size_11 (lv_at hl 0 rfl) ?_
        refine lv_sipush (v := nI 256) hx hb dX0_size_13 (by decide) ?_
        refine is_icmp_ge (a := k) (b := 256) (tgt := 58) hx hb (by omega) (by omega) dX0_size_16 (by decide) (fun hk => ?_) (fun hk => ?_)
        · refine lv_iload_n hx hb dX0_size_58 rfl (lv_at hl 2 rfl) ?_
          exact W.iret (v := acc) hx hb hr (fun t ht hW => ⟨⟨acc, (nI n, fb, nI 1, fl1, st, fo, fc, dp), rfl, ⟨hI, fl1, st, fo, fc, dp, hLk1, rfl⟩, by rw [ht]; exact hP, va_K.moved hW.alike hK, hD⟩, hS.F ht⟩) hS.2.2 dX0_size_59
        · refine lv_iload_n hx hb dX0_size_19 rfl (lv_at hl 1 rfl) ?_
          refine is_if_eq (a := 0) (tgt := 58) hx hb (by omega) dX0_size_20 (by decide) (fun hz => ?_) (fun hz => ?_)
          · refine lv_iload_n hx hb dX0_size_58 rfl (lv_at hl 2 rfl) ?_
            exact W.iret (v := acc) hx hb hr (fun t ht hW => ⟨⟨acc, (nI n, fb, nI 1, fl1, st, fo, fc, dp), rfl, ⟨hI, fl1, st, fo, fc, dp, hLk1, rfl⟩, by rw [ht]; exact hP, va_K.moved hW.alike hK, hD⟩, hS.F ht⟩) hS.2.2 dX0_size_59
          · exact absurd rfl hz
  rcases hgo with ⟨rfl, S, fo1, fc1, hS8, -, hof, hs, hG, rfl⟩ | ⟨rfl, hs, st1, fo1, fc1, dp1, rfl⟩
  · refine lv_istore_n (lv' := [(3, .int (nI 1)), (2, .int (nI 0)), (0, .ref (ha 0)), (1, .int mm)]) hx hb dX0_size_7 rfl hl (by decide) rfl (fun ls hl => ?_)
    refine lv_iconst (v := nI 0) hx hb dX0_size_8 (by decide) ?_
    refine lv_istore (lv' := [(4, .int (nI 0)), (3, .int (nI 1)), (2, .int (nI 0)), (0, .ref (ha 0)), (1, .int mm)]) hx hb dX0_size_9 hl (by decide) rfl (fun ls hl => ?_)
    exact lo 257 fl' 0 _ _ _ _ _ _ (by omega) (by omega) hLk (Or.inl ⟨S, rfl, hS8, is_of_pos hof, hof, rfl, rfl, hG, (is_fld_skip (Nat.zero_le S) (fun s q1 q2 => hs s q1 q2)).symm⟩) _ _ _ hP hD hS (lv_sub hl [0, 1, 2, 3, 4] rfl)
  · refine lv_istore_n (lv' := [(3, .int (nI 0)), (2, .int (nI 0)), (0, .ref (ha 0)), (1, .int mm)]) hx hb dX0_size_7 rfl hl (by decide) rfl (fun ls hl => ?_)
    refine lv_iconst (v := nI 0) hx hb dX0_size_8 (by decide) ?_
    refine lv_istore (lv' := [(4, .int (nI 0)), (3, .int (nI 0)), (2, .int (nI 0)), (0, .ref (ha 0)), (1, .int mm)]) hx hb dX0_size_9 hl (by decide) rfl (fun ls hl => ?_)
    exact lo 257 fl' 0 _ _ _ _ _ _ (by omega) (by omega) hLk (Or.inr ⟨rfl, (is_fld_skip (Nat.zero_le 256) (fun s q1 q2 => hs s q1 q2)).symm⟩) _ _ _ hP hD hS (lv_sub hl [0, 1, 2, 3, 4] rfl)
set_option maxHeartbeats 4000000 in
set_option maxRecDepth 100000 in
/-- next(m, from) -/
theorem metX0_next (l : Launch) (dC : Nat → ClassId) (dI : Nat → Nat → Nat) (ha : Nat → Nat) (da : Nat → ClassId) (sz : Nat) (b : Nat → Nat) (n : Nat) (fb : Nat → Int32) (so : Int32) (fl : Nat → Int64) (st : Int32) (fo : Nat → Int64) (fc : Nat → Int32) (dp : Int32) (hn : n ≤ 40) (hbk : is_Bk fb n b) (hso : is_So b n so fl) (mm : Int32) (fr : Int32) : Met l yX0_next (ws_ yX0_next cX0_next 5 (some .int)) ({ frames := 4, cells := 0, slots := 0, locals := 90 }) (is_P dC dI (is_XT da) (is_XW ha da (nI n, fb, so, fl, st, fo, fc, dp)) sz [.ref (ha 0), .int mm, .int fr]) (va_Qi (fun (r : Int32) (u' : is_US) => is_nx (is_of b n mm) fr r ∧ is_Fin b n fb u') (is_B dC dI (is_XT da) (is_XW ha da) (va_A (is_XW ha da (nI n, fb, so, fl, st, fo, fc, dp)) sz)) (va_A (is_XW ha da (nI n, fb, so, fl, st, fo, fc, dp)) sz)) 0 0 (va_A (is_XW ha da (nI n, fb, so, fl, st, fo, fc, dp)) sz) := by
  refine Met.ofW (cc := cX0_next) (maxL := 5) (ret := (some .int)) (by decide) rfl ?_
  intro p e s m args below meth c s₁ B hml hv
  obtain ⟨rfl, hsz, hP, hK, hD0⟩ := hv
  have hx := B.exec
  have hb := B.bytes
  have hr := B.returns
  have hts := atoms_spec (ws := (ws_ yX0_next cX0_next 5 (some .int))) B.pre
  have hts : ∀ w ∈ lw_all, w.before _ s = true := fun w h => hts w (List.mem_cons_of_mem _ h)
  have hown : s.vm.findClass RX0 = some m.cls := findClass_of_methodNamed B.named
  have hlocks := B.notSynchronized
  subst hsz
  have hD := hD0.self (sz := s.heap.size)
  generalize hAe : va_A (is_XW ha da (nI n, fb, so, fl, st, fo, fc, dp)) s.heap.size = A at hD ⊢
  have hA : ∀ q : Nat, s.heap.size ≤ q → A q := fun q h => by rw [← hAe]; exact Or.inr h
  have hS : va_S A s.heap s.heap [] := va_S.rf
  have hl := lv_entry ([.ref (ha 0), .int mm, .int fr]) (n := 5) (Nat.le_of_ble_eq_true rfl)
  rw [lg_entry_eq]
  generalize (lg_sl ([.ref (ha 0), .int mm, .int fr]) ++ List.replicate (5 - (lg_sl ([.ref (ha 0), .int mm, .int fr])).length) Slot.unset).toArray = ls at hl ⊢
  have hl : lv_has ls 5 [(0, .ref (ha 0)), (1, .int mm), (2, .int fr)] := hl
  refine lv_aload_n hx hb dX0_next_0 rfl (lv_at hl 0 rfl) ?_
  refine lv_iload_n hx hb dX0_next_1 rfl (lv_at hl 1 rfl) ?_
  refine is_cVi (Wd := is_XW ha da) (u := (nI n, fb, so, fl, st, fo, fc, dp)) (As := [.int mm]) (rest := []) (b := ha 0) ⟨hx, hb, hml, hown, hts⟩ (metX0_start l dC dI ha da _ b n fb so fl st fo fc dp hn hbk hso mm) (cwV 1 hts (lw_V q75 q77 qs2 q11 q78) rfl rfl rfl (by decide +kernel) ⟨Nat.le_of_ble_eq_true rfl, Nat.le_of_ble_eq_true rfl⟩) (va_recv hK hP (ci := 0) (q0 := 0) rfl rfl) hK hP hD hS hA rfl hl.1 rfl (Nat.le_of_ble_eq_true rfl) dX0_next_2 ⟨Nat.zero_le _, Nat.zero_le _⟩ (fun r u' H locs hw hP hD hS => ?_)
  obtain ⟨fl', hLk, hgo⟩ := hw
  have lo : ∀ (j : Nat) (fl1 : Nat → Int64) (k : Nat) (z st : Int32) (fo : Nat → Int64) (fc : Nat → Int32) (dp : Int32), 256 < k + j → k ≤ 256 → is_Lk b n fl1 → is_lp b n mm (is_nI b n mm fr) k z st fo fc dp → ∀ (H : Heap) (locs : List Loc) (ls : Array Slot), va_P (dC, dI) is_cl (is_XW ha da (nI n, fb, nI 1, fl1, st, fo, fc, dp)) H → va_D A (is_XW ha da (nI n, fb, nI 1, fl1, st, fo, fc, dp)) → va_S A s.heap H locs → lv_has ls 5 [(4, .int (nI k)), (3, .int z), (0, .ref (ha 0)), (1, .int mm), (2, .int fr)] → W p l e (headSpec (ws_ yX0_next cX0_next 5 (some .int)) ({ frames := 4, cells := 0, slots := 0, locals := 90 })).room s m ([.ref (ha 0), .int mm, .int fr] : List Value).toArray below meth c H locs 0 0 (MQ below (va_Qi (fun (r : Int32) (u' : is_US) => is_nx (is_of b n mm) fr r ∧ is_Fin b n fb u') (is_B dC dI (is_XT da) (is_XW ha da) A) A) ([.ref (ha 0), .int mm, .int fr] : List Value).toArray s 0 0 A) (F0 m 9 ls []) := by
    intro j
    induction j with
    | zero => intro fl1 k z st fo fc dp h1 h2 hLk1 h3; omega
    | succ j ihlo =>
      intro fl1 k z st fo fc dp h1 h2 hLk1 h3 H locs ls hP hD hS hl
      rcases h3 with ⟨S, rfl, hS8, hkS, hof, rfl, rfl, hG, hI⟩ | ⟨rfl, hI⟩
      · refine lv_iload hx hb dX0_next_9 (lv_at hl 0 rfl) ?_
        refine lv_sipush (v := nI 256) hx hb dX0_next_11 (by decide) ?_
        refine is_icmp_ge (a := k) (b := 256) (tgt := 46) hx hb (by omega) (by omega) dX0_next_14 (by decide) (fun hk => ?_) (fun hk => ?_)
        · omega
        · refine lv_iload_n hx hb dX0_next_17 rfl (lv_at hl 1 rfl) ?_
          refine is_if_eq (a := 1) (tgt := 46) hx hb (by omega) dX0_next_18 (by decide) (fun hz => ?_) (fun hz => ?_)
          · exact absurd hz (by decide)
          · have hm1 := (is_of_iff.mp hof).1
            refine lv_aload_n hx hb dX0_next_21 rfl (lv_at hl 2 rfl) ?_
            refine va_get (D := (dC, dI)) (ci := 0) (v := .int (nI S)) (C := RX0) (T := TX0) (N := 8) hx hb hts in_X0 hown hK hP 0 rfl rfl 4 (by decide) (hts _ q25) (fun _ h9 => h9) rfl dX0_next_22 ?_
            refine lv_iload_n hx hb dX0_next_25 rfl (lv_at hl 4 rfl) ?_
            refine lv_icmp_lt (tgt := 34) hx hb dX0_next_26 (by decide) (fun hl0 => ?_) (fun hl0 => ?_)
            · refine lv_aload_n hx hb dX0_next_34 rfl (lv_at hl 2 rfl) ?_
              refine lv_iload_n hx hb dX0_next_35 rfl (lv_at hl 3 rfl) ?_
              refine is_cVi (Wd := is_XW ha da) (u := (nI n, fb, nI 1, fl1, nI S, fo, fc, nI 8)) (As := [.int mm]) (rest := []) (b := ha 0) ⟨hx, hb, hml, hown, hts⟩ (metX0_goOn l dC dI ha da _ b n fb (nI 1) fl1 _ _ _ _ hn hLk1 mm hm1 (S + 1) (Or.inl ⟨S, rfl, rfl, rfl, hG⟩)) (cwV 1 hts (lw_V q79 q81 qs3 q11 q82) rfl rfl rfl (by decide +kernel) ⟨Nat.le_of_ble_eq_true rfl, Nat.le_of_ble_eq_true rfl⟩) (va_recv hK hP (ci := 0) (q0 := 0) rfl rfl) hK hP hD hS hA rfl hl.1 rfl (Nat.le_of_ble_eq_true rfl) dX0_next_36 ⟨Nat.zero_le _, Nat.zero_le _⟩ (fun r u' H locs hw hP hD hS => ?_)
              rcases hw with ⟨rfl, S2, fo2, fc2, hS2, hp2, hof2, hs2, hG2, rfl⟩ | ⟨rfl, hs2, st2, fo2, fc2, dp2, rfl⟩
              · refine lv_istore_n (lv' := [(3, .int (nI 1)), (4, .int (nI k)), (0, .ref (ha 0)), (1, .int mm), (2, .int fr)]) hx hb dX0_next_39 rfl hl (by decide) rfl (fun ls hl => ?_)
                refine lv_iinc (v := nI (k + 1)) (lv' := [(4, .int (nI (k + 1))), (3, .int (nI 1)), (0, .ref (ha 0)), (1, .int mm), (2, .int fr)]) hx hb dX0_next_40 hl (k := 1) rfl (is_inc k) (by decide) rfl (fun ls hl => ?_)
                refine lv_goto (tgt := 9) hx hb dX0_next_43 (by decide) ?_
                exact ihlo fl1 (k + 1) _ _ _ _ _ (by omega) (by omega) hLk1 (Or.inl ⟨S2, rfl, hS2, by omega, hof2, rfl, rfl, hG2, is_nI_go hI (is_not_le.mpr hl0) hs2⟩) _ _ _ hP hD hS (lv_sub hl [0, 1, 2, 3, 4] rfl)
              · refine lv_istore_n (lv' := [(3, .int (nI 0)), (4, .int (nI k)), (0, .ref (ha 0)), (1, .int mm), (2, .int fr)]) hx hb dX0_next_39 rfl hl (by decide) rfl (fun ls hl => ?_)
                refine lv_iinc (v := nI (k + 1)) (lv' := [(4, .int (nI (k + 1))), (3, .int (nI 0)), (0, .ref (ha 0)), (1, .int mm), (2, .int fr)]) hx hb dX0_next_40 hl (k := 1) rfl (is_inc k) (by decide) rfl (fun ls hl => ?_)
                refine lv_goto (tgt := 9) hx hb dX0_next_43 (by decide) ?_
                exact ihlo fl1 (k + 1) _ _ _ _ _ (by omega) (by omega) hLk1 (Or.inr ⟨rfl, is_nI_go hI (is_not_le.mpr hl0) hs2⟩) _ _ _ hP hD hS (lv_sub hl [0, 1, 2, 3, 4] rfl)
            · refine lv_aload_n hx hb dX0_next_29 rfl (lv_at hl 2 rfl) ?_
              refine va_get (D := (dC, dI)) (ci := 0) (v := .int (nI S)) (C := RX0) (T := TX0) (N := 8) hx hb hts in_X0 hown hK hP 0 rfl rfl 4 (by decide) (hts _ q25) (fun _ h9 => h9) rfl dX0_next_30 ?_
              exact W.iret (v := nI S) hx hb hr (fun t ht hW => ⟨⟨nI S, (nI n, fb, nI 1, fl1, nI S, fo, fc, nI 8), rfl, ⟨Or.inl ⟨S, hS8, hof, Classical.byContradiction fun q => hl0 (is_not_le.mp q), hI, rfl⟩, fl1, nI S, fo, fc, nI 8, hLk1, rfl⟩, by rw [ht]; exact hP, va_K.moved hW.alike hK, hD⟩, hS.F ht⟩) hS.2.2 dX0_next_33
      · refine lv_iload hx hb dX0_next_9 (lv_at hl 0 rfl) ?_
        refine lv_sipush (v := nI 256) hx hb dX0_next_11 (by decide) ?_
        refine is_icmp_ge (a := k) (b := 256) (tgt := 46) hx hb (by omega) (by omega) dX0_next_14 (by decide) (fun hk => ?_) (fun hk => ?_)
        · refine lv_iconst (v := (-1)) hx hb dX0_next_46 (by decide) ?_
          exact W.iret (v := -1) hx hb hr (fun t ht hW => ⟨⟨-1, (nI n, fb, nI 1, fl1, st, fo, fc, dp), rfl, ⟨Or.inr ⟨hI, rfl⟩, fl1, st, fo, fc, dp, hLk1, rfl⟩, by rw [ht]; exact hP, va_K.moved hW.alike hK, hD⟩, hS.F ht⟩) hS.2.2 dX0_next_47
        · refine lv_iload_n hx hb dX0_next_17 rfl (lv_at hl 1 rfl) ?_
          refine is_if_eq (a := 0) (tgt := 46) hx hb (by omega) dX0_next_18 (by decide) (fun hz => ?_) (fun hz => ?_)
          · refine lv_iconst (v := (-1)) hx hb dX0_next_46 (by decide) ?_
            exact W.iret (v := -1) hx hb hr (fun t ht hW => ⟨⟨-1, (nI n, fb, nI 1, fl1, st, fo, fc, dp), rfl, ⟨Or.inr ⟨hI, rfl⟩, fl1, st, fo, fc, dp, hLk1, rfl⟩, by rw [ht]; exact hP, va_K.moved hW.alike hK, hD⟩, hS.F ht⟩) hS.2.2 dX0_next_47
          · exact absurd rfl hz
  rcases hgo with ⟨rfl, S, fo1, fc1, hS8, -, hof, hs, hG, rfl⟩ | ⟨rfl, hs, st1, fo1, fc1, dp1, rfl⟩
  · refine lv_istore_n (lv' := [(3, .int (nI 1)), (0, .ref (ha 0)), (1, .int mm), (2, .int fr)]) hx hb dX0_next_5 rfl hl (by decide) rfl (fun ls hl => ?_)
    refine lv_iconst (v := nI 0) hx hb dX0_next_6 (by decide) ?_
    refine lv_istore (lv' := [(4, .int (nI 0)), (3, .int (nI 1)), (0, .ref (ha 0)), (1, .int mm), (2, .int fr)]) hx hb dX0_next_7 hl (by decide) rfl (fun ls hl => ?_)
    exact lo 257 fl' 0 _ _ _ _ _ (by omega) (by omega) hLk (Or.inl ⟨S, rfl, hS8, is_of_pos hof, hof, rfl, rfl, hG, fun t ht q => by rw [hs t (Nat.zero_le _) ht] at q; exact Bool.false_ne_true q.1⟩) _ _ _ hP hD hS (lv_sub hl [0, 1, 2, 3, 4] rfl)
  · refine lv_istore_n (lv' := [(3, .int (nI 0)), (0, .ref (ha 0)), (1, .int mm), (2, .int fr)]) hx hb dX0_next_5 rfl hl (by decide) rfl (fun ls hl => ?_)
    refine lv_iconst (v := nI 0) hx hb dX0_next_6 (by decide) ?_
    refine lv_istore (lv' := [(4, .int (nI 0)), (3, .int (nI 0)), (0, .ref (ha 0)), (1, .int mm), (2, .int fr)]) hx hb dX0_next_7 hl (by decide) rfl (fun ls hl => ?_)
    exact lo 257 fl' 0 _ _ _ _ _ (by omega) (by omega) hLk (Or.inr ⟨rfl, fun t ht q => by rw [hs t (Nat.zero_le _) ht] at q; exact Bool.false_ne_true q.1⟩) _ _ _ hP hD hS (lv_sub hl [0, 1, 2, 3, 4] rfl)
set_option maxHeartbeats 4000000 in
set_option maxRecDepth 100000 in
/-- rules(m, percent) -/
theorem metX0_rules (l : Launch) (dC : Nat → ClassId) (dI : Nat → Nat → Nat) (ha : Nat → Nat) (da : Nat → ClassId) (sz : Nat) (b : Nat → Nat) (n : Nat) (fb : Nat → Int32) (so : Int32) (fl : Nat → Int64) (st : Int32) (fo : Nat → Int64) (fc : Nat → Int32) (dp : Int32) (hn : n ≤ 40) (hbk : is_Bk fb n b) (hso : is_So b n so fl) (mm : Int32) (p1 : Int32) : Met l yX0_rules (ws_ yX0_rules cX0_rules 6 (some .int)) ({ frames := 4, cells := 0, slots := 0, locals := 90 }) (is_P dC dI (is_XT da) (is_XW ha da (nI n, fb, so, fl, st, fo, fc, dp)) sz [.ref (ha 0), .int mm, .int p1]) (va_Qi (fun (r : Int32) (u' : is_US) => r = is_fld (is_of b n mm) (is_fR b n p1) 256 ∧ is_Fin b n fb u') (is_B dC dI (is_XT da) (is_XW ha da) (va_A (is_XW ha da (nI n, fb, so, fl, st, fo, fc, dp)) sz)) (va_A (is_XW ha da (nI n, fb, so, fl, st, fo, fc, dp)) sz)) 0 0 (va_A (is_XW ha da (nI n, fb, so, fl, st, fo, fc, dp)) sz) := by
  refine Met.ofW (cc := cX0_rules) (maxL := 6) (ret := (some .int)) (by decide) rfl ?_
  intro p e s m args below meth c s₁ B hml hv
  obtain ⟨rfl, hsz, hP, hK, hD0⟩ := hv
  have hx := B.exec
  have hb := B.bytes
  have hr := B.returns
  have hts := atoms_spec (ws := (ws_ yX0_rules cX0_rules 6 (some .int))) B.pre
  have hts : ∀ w ∈ lw_all, w.before _ s = true := fun w h => hts w (List.mem_cons_of_mem _ h)
  have hown : s.vm.findClass RX0 = some m.cls := findClass_of_methodNamed B.named
  have hlocks := B.notSynchronized
  subst hsz
  have hD := hD0.self (sz := s.heap.size)
  generalize hAe : va_A (is_XW ha da (nI n, fb, so, fl, st, fo, fc, dp)) s.heap.size = A at hD ⊢
  have hA : ∀ q : Nat, s.heap.size ≤ q → A q := fun q h => by rw [← hAe]; exact Or.inr h
  have hS : va_S A s.heap s.heap [] := va_S.rf
  have hl := lv_entry ([.ref (ha 0), .int mm, .int p1]) (n := 6) (Nat.le_of_ble_eq_true rfl)
  rw [lg_entry_eq]
  generalize (lg_sl ([.ref (ha 0), .int mm, .int p1]) ++ List.replicate (6 - (lg_sl ([.ref (ha 0), .int mm, .int p1])).length) Slot.unset).toArray = ls at hl ⊢
  have hl : lv_has ls 6 [(0, .ref (ha 0)), (1, .int mm), (2, .int p1)] := hl
  refine lv_iconst (v := nI 0) hx hb dX0_rules_0 (by decide) ?_
  refine lv_istore_n (lv' := [(3, .int (nI 0)), (0, .ref (ha 0)), (1, .int mm), (2, .int p1)]) hx hb dX0_rules_1 rfl hl (by decide) rfl (fun ls hl => ?_)
  refine lv_aload_n hx hb dX0_rules_2 rfl (lv_at hl 1 rfl) ?_
  refine lv_iload_n hx hb dX0_rules_3 rfl (lv_at hl 2 rfl) ?_
  refine is_cVi (Wd := is_XW ha da) (u := (nI n, fb, so, fl, st, fo, fc, dp)) (As := [.int mm]) (rest := []) (b := ha 0) ⟨hx, hb, hml, hown, hts⟩ (metX0_start l dC dI ha da _ b n fb so fl st fo fc dp hn hbk hso mm) (cwV 1 hts (lw_V q75 q77 qs2 q11 q78) rfl rfl rfl (by decide +kernel) ⟨Nat.le_of_ble_eq_true rfl, Nat.le_of_ble_eq_true rfl⟩) (va_recv hK hP (ci := 0) (q0 := 0) rfl rfl) hK hP hD hS hA rfl hl.1 rfl (Nat.le_of_ble_eq_true rfl) dX0_rules_4 ⟨Nat.zero_le _, Nat.zero_le _⟩ (fun r u' H locs hw hP hD hS => ?_)
  obtain ⟨fl', hLk, hgo⟩ := hw
  have lo : ∀ (j : Nat) (fl1 : Nat → Int64) (k : Nat) (z acc st : Int32) (fo : Nat → Int64) (fc : Nat → Int32) (dp : Int32), 256 < k + j → k ≤ 256 → is_Lk b n fl1 → is_lp b n mm (fun S => acc = is_fld (is_of b n mm) (is_fR b n p1) S) k z st fo fc dp → ∀ (H : Heap) (locs : List Loc) (ls : Array Slot), va_P (dC, dI) is_cl (is_XW ha da (nI n, fb, nI 1, fl1, st, fo, fc, dp)) H → va_D A (is_XW ha da (nI n, fb, nI 1, fl1, st, fo, fc, dp)) → va_S A s.heap H locs → lv_has ls 6 [(5, .int (nI k)), (4, .int z), (3, .int acc), (0, .ref (ha 0)), (1, .int mm), (2, .int p1)] → W p l e (headSpec (ws_ yX0_rules cX0_rules 6 (some .int)) ({ frames := 4, cells := 0, slots := 0, locals := 90 })).room s m ([.ref (ha 0), .int mm, .int p1] : List Value).toArray below meth c H locs 0 0 (MQ below (va_Qi (fun (r : Int32) (u' : is_US) => r = is_fld (is_of b n mm) (is_fR b n p1) 256 ∧ is_Fin b n fb u') (is_B dC dI (is_XT da) (is_XW ha da) A) A) ([.ref (ha 0), .int mm, .int p1] : List Value).toArray s 0 0 A) (F0 m 12 ls []) := by
    intro j
    induction j with
    | zero => intro fl1 k z acc st fo fc dp h1 h2 hLk1 h3; omega
    | succ j ihlo =>
      intro fl1 k z acc st fo fc dp h1 h2 hLk1 h3 H locs ls hP hD hS hl
      rcases h3 with ⟨S, rfl, hS8, hkS, hof, rfl, rfl, hG, hI⟩ | ⟨rfl, hI⟩
      · refine lv_iload hx hb dX0_rules_12 (lv_at hl 0 rfl) ?_
        refine lv_sipush (v := nI 256) hx hb dX0_rules_14 (by decide) ?_
        refine is_icmp_ge (a := k) (b := 256) (tgt := 50) hx hb (by omega) (by omega) dX0_rules_17 (by decide) (fun hk => ?_) (fun hk => ?_)
        · omega
        · refine lv_iload hx hb dX0_rules_20 (lv_at hl 1 rfl) ?_
          refine is_if_eq (a := 1) (tgt := 50) hx hb (by omega) dX0_rules_22 (by decide) (fun hz => ?_) (fun hz => ?_)
          · exact absurd hz (by decide)
          · have hm1 := (is_of_iff.mp hof).1
            refine lv_iload_n hx hb dX0_rules_25 rfl (lv_at hl 2 rfl) ?_
            refine lv_aload_n hx hb dX0_rules_26 rfl (lv_at hl 3 rfl) ?_
            refine lv_aload_n hx hb dX0_rules_27 rfl (lv_at hl 3 rfl) ?_
            refine va_get (D := (dC, dI)) (ci := 0) (v := .int (nI S)) (C := RX0) (T := TX0) (N := 8) hx hb hts in_X0 hown hK hP 0 rfl rfl 4 (by decide) (hts _ q25) (fun _ h9 => h9) rfl dX0_rules_28 ?_
            refine lv_iload_n hx hb dX0_rules_31 rfl (lv_at hl 5 rfl) ?_
            refine is_cVi (Wd := is_XW ha da) (u := (nI n, fb, nI 1, fl1, nI S, fo, fc, nI 8)) (As := [.int (nI S), .int p1]) (rest := [.int acc]) (b := ha 0) ⟨hx, hb, hml, hown, hts⟩ (metX0_rulesWithin l dC dI ha da _ b n fb fl1 (nI S) fo fc (nI 8) hn hbk hLk1 S p1 hS8 (is_of_pos hof) (is_GI_leaf hG)) (cwV 2 hts (lw_V q116 q118 qs6 q11 q119) rfl rfl rfl (by decide +kernel) ⟨Nat.le_of_ble_eq_true rfl, Nat.le_of_ble_eq_true rfl⟩) (va_recv hK hP (ci := 0) (q0 := 0) rfl rfl) hK hP hD hS hA rfl hl.1 rfl (Nat.le_of_ble_eq_true rfl) dX0_rules_32 ⟨Nat.zero_le _, Nat.zero_le _⟩ (fun r u' H locs hw hP hD hS => ?_)
            obtain ⟨rfl, fl2, hLk2, rfl⟩ := hw
            have hP : va_P (dC, dI) is_cl (is_XW ha da (nI n, fb, nI 1, fl2, nI S, fo, fc, nI 8)) H := hP
            have hD : va_D A (is_XW ha da (nI n, fb, nI 1, fl2, nI S, fo, fc, nI 8)) := hD
            refine lv_iadd hx hb dX0_rules_35 ?_
            refine lv_istore_n (lv' := [(3, .int (acc + (nI (fb_ct (is_rq b n S p1) S)))), (5, .int (nI k)), (4, .int (nI 1)), (0, .ref (ha 0)), (1, .int mm), (2, .int p1)]) hx hb dX0_rules_36 rfl hl (by decide) rfl (fun ls hl => ?_)
            refine lv_aload_n hx hb dX0_rules_37 rfl (lv_at hl 3 rfl) ?_
            refine lv_iload_n hx hb dX0_rules_38 rfl (lv_at hl 4 rfl) ?_
            refine is_cVi (Wd := is_XW ha da) (u := (nI n, fb, nI 1, fl2, nI S, fo, fc, nI 8)) (As := [.int mm]) (rest := []) (b := ha 0) ⟨hx, hb, hml, hown, hts⟩ (metX0_goOn l dC dI ha da _ b n fb (nI 1) fl2 _ _ _ _ hn hLk2 mm hm1 (S + 1) (Or.inl ⟨S, rfl, rfl, rfl, hG⟩)) (cwV 1 hts (lw_V q79 q81 qs3 q11 q82) rfl rfl rfl (by decide +kernel) ⟨Nat.le_of_ble_eq_true rfl, Nat.le_of_ble_eq_true rfl⟩) (va_recv hK hP (ci := 0) (q0 := 0) rfl rfl) hK hP hD hS hA rfl hl.1 rfl (Nat.le_of_ble_eq_true rfl) dX0_rules_39 ⟨Nat.zero_le _, Nat.zero_le _⟩ (fun r u' H locs hw hP hD hS => ?_)
            rcases hw with ⟨rfl, S2, fo2, fc2, hS2, hp2, hof2, hs2, hG2, rfl⟩ | ⟨rfl, hs2, st2, fo2, fc2, dp2, rfl⟩
            · refine lv_istore (lv' := [(4, .int (nI 1)), (3, .int (acc + (nI (fb_ct (is_rq b n S p1) S)))), (5, .int (nI k)), (0, .ref (ha 0)), (1, .int mm), (2, .int p1)]) hx hb dX0_rules_42 hl (by decide) rfl (fun ls hl => ?_)
              refine lv_iinc (v := nI (k + 1)) (lv' := [(5, .int (nI (k + 1))), (4, .int (nI 1)), (3, .int (acc + (nI (fb_ct (is_rq b n S p1) S)))), (0, .ref (ha 0)), (1, .int mm), (2, .int p1)]) hx hb dX0_rules_44 hl (k := 2) rfl (is_inc k) (by decide) rfl (fun ls hl => ?_)
              refine lv_goto (tgt := 12) hx hb dX0_rules_47 (by decide) ?_
              exact ihlo fl2 (k + 1) _ _ _ _ _ _ (by omega) (by omega) hLk2 (Or.inl ⟨S2, rfl, hS2, by omega, hof2, rfl, rfl, hG2, is_fI (f := is_fR b n p1) (T := S2) hI hof (rfl) (by omega) hs2⟩) _ _ _ hP hD hS (lv_sub hl [0, 1, 2, 3, 4, 5] rfl)
            · refine lv_istore (lv' := [(4, .int (nI 0)), (3, .int (acc + (nI (fb_ct (is_rq b n S p1) S)))), (5, .int (nI k)), (0, .ref (ha 0)), (1, .int mm), (2, .int p1)]) hx hb dX0_rules_42 hl (by decide) rfl (fun ls hl => ?_)
              refine lv_iinc (v := nI (k + 1)) (lv' := [(5, .int (nI (k + 1))), (4, .int (nI 0)), (3, .int (acc + (nI (fb_ct (is_rq b n S p1) S)))), (0, .ref (ha 0)), (1, .int mm), (2, .int p1)]) hx hb dX0_rules_44 hl (k := 2) rfl (is_inc k) (by decide) rfl (fun ls hl => ?_)
              refine lv_goto (tgt := 12) hx hb dX0_rules_47 (by decide) ?_
              exact ihlo fl2 (k + 1) _ _ _ _ _ _ (by omega) (by omega) hLk2 (Or.inr ⟨rfl, is_fI (f := is_fR b n p1) (T := 256) hI hof (rfl) (by omega) hs2⟩) _ _ _ hP hD hS (lv_sub hl [0, 1, 2, 3, 4, 5] rfl)
      · refine lv_iload hx hb dX0_rules_12 (lv_at hl 0 rfl) ?_
        refine lv_sipush (v := nI 256) hx hb dX0_rules_14 (by decide) ?_
        refine is_icmp_ge (a := k) (b := 256) (tgt := 50) hx hb (by omega) (by omega) dX0_rules_17 (by decide) (fun hk => ?_) (fun hk => ?_)
        · refine lv_iload_n hx hb dX0_rules_50 rfl (lv_at hl 2 rfl) ?_
          exact W.iret (v := acc) hx hb hr (fun t ht hW => ⟨⟨acc, (nI n, fb, nI 1, fl1, st, fo, fc, dp), rfl, ⟨hI, fl1, st, fo, fc, dp, hLk1, rfl⟩, by rw [ht]; exact hP, va_K.moved hW.alike hK, hD⟩, hS.F ht⟩) hS.2.2 dX0_rules_51
        · refine lv_iload hx hb dX0_rules_20 (lv_at hl 1 rfl) ?_
          refine is_if_eq (a := 0) (tgt := 50) hx hb (by omega) dX0_rules_22 (by decide) (fun hz => ?_) (fun hz => ?_)
          · refine lv_iload_n hx hb dX0_rules_50 rfl (lv_at hl 2 rfl) ?_
            exact W.iret (v := acc) hx hb hr (fun t ht hW => ⟨⟨acc, (nI n, fb, nI 1, fl1, st, fo, fc, dp), rfl, ⟨hI, fl1, st, fo, fc, dp, hLk1, rfl⟩, by rw [ht]; exact hP, va_K.moved hW.alike hK, hD⟩, hS.F ht⟩) hS.2.2 dX0_rules_51
          · exact absurd rfl hz
  rcases hgo with ⟨rfl, S, fo1, fc1, hS8, -, hof, hs, hG, rfl⟩ | ⟨rfl, hs, st1, fo1, fc1, dp1, rfl⟩
  · refine lv_istore (lv' := [(4, .int (nI 1)), (3, .int (nI 0)), (0, .ref (ha 0)), (1, .int mm), (2, .int p1)]) hx hb dX0_rules_7 hl (by decide) rfl (fun ls hl => ?_)
    refine lv_iconst (v := nI 0) hx hb dX0_rules_9 (by decide) ?_
    refine lv_istore (lv' := [(5, .int (nI 0)), (4, .int (nI 1)), (3, .int (nI 0)), (0, .ref (ha 0)), (1, .int mm), (2, .int p1)]) hx hb dX0_rules_10 hl (by decide) rfl (fun ls hl => ?_)
    exact lo 257 fl' 0 _ _ _ _ _ _ (by omega) (by omega) hLk (Or.inl ⟨S, rfl, hS8, is_of_pos hof, hof, rfl, rfl, hG, (is_fld_skip (Nat.zero_le S) (fun s q1 q2 => hs s q1 q2)).symm⟩) _ _ _ hP hD hS (lv_sub hl [0, 1, 2, 3, 4, 5] rfl)
  · refine lv_istore (lv' := [(4, .int (nI 0)), (3, .int (nI 0)), (0, .ref (ha 0)), (1, .int mm), (2, .int p1)]) hx hb dX0_rules_7 hl (by decide) rfl (fun ls hl => ?_)
    refine lv_iconst (v := nI 0) hx hb dX0_rules_9 (by decide) ?_
    refine lv_istore (lv' := [(5, .int (nI 0)), (4, .int (nI 0)), (3, .int (nI 0)), (0, .ref (ha 0)), (1, .int mm), (2, .int p1)]) hx hb dX0_rules_10 hl (by decide) rfl (fun ls hl => ?_)
    exact lo 257 fl' 0 _ _ _ _ _ _ (by omega) (by omega) hLk (Or.inr ⟨rfl, (is_fld_skip (Nat.zero_le 256) (fun s q1 q2 => hs s q1 q2)).symm⟩) _ _ _ hP hD hS (lv_sub hl [0, 1, 2, 3, 4, 5] rfl)
end
section
/-! CONTRACTS of ItemSetsModel, 1: add, drop, support, isOften, often, isFull, full -/
set_option maxRecDepth 100000
theorem is_fld_1 {b : Nat → Nat} {n : Nat} {mm : Int32} {f : Nat → Int32 → Int32} : nI 0 = is_fld (is_of b n mm) f 1 := (is_fld_f is_of_0).symm
theorem is_b1_if (S g : Nat) : is_b1 S g = if S.testBit g then 1 else 0 := by
  rw [is_b1_tb]
  have := is_b1_lt S g
  rcases (show is_b1 S g = 0 ∨ is_b1 S g = 1 by omega) with h | h <;> simp [h]
theorem is_add0 (a : Int32) : a + nI 0 = a := Int32.add_zero a
set_option maxHeartbeats 4000000 in
set_option maxRecDepth 100000 in
/-- add(basket) -/
theorem metX1_add (l : Launch) (dC : Nat → ClassId) (dI : Nat → Nat → Nat) (ha : Nat → Nat) (da : Nat → ClassId) (sz : Nat) (n : Nat) (fb : Nat → Int32) (hn : n ≤ 40) (v : Nat) (hv : v < 2 ^ 32) : Met l yX1_add (ws_ yX1_add cX1_add 2 (some .int)) ({ frames := 0, cells := 0, slots := 0, locals := 0 }) (is_P dC dI (is_MT da) (is_MW ha da (nI n, fb)) sz [.ref (ha 0), .int (nI v)]) (va_Qi (fun (r : Int32) (u' : is_UM) => (n < 40 ∧ r = nI (n + 1) ∧ u' = (nI (n + 1), upd fb n (nI (v % 256)))) ∨ (n = 40 ∧ r = -1 ∧ u' = (nI n, fb))) (is_B dC dI (is_MT da) (is_MW ha da) (va_A (is_MW ha da (nI n, fb)) sz)) (va_A (is_MW ha da (nI n, fb)) sz)) 0 0 (va_A (is_MW ha da (nI n, fb)) sz) := by
  refine Met.ofW (cc := cX1_add) (maxL := 2) (ret := (some .int)) (by decide) rfl ?_
  intro p e s m args below meth c s₁ B hml hv
  obtain ⟨rfl, hsz, hP, hK, hD0⟩ := hv
  have hx := B.exec
  have hb := B.bytes
  have hr := B.returns
  have hts := atoms_spec (ws := (ws_ yX1_add cX1_add 2 (some .int))) B.pre
  have hts : ∀ w ∈ lw_all, w.before _ s = true := fun w h => hts w (List.mem_cons_of_mem _ h)
  have hown : s.vm.findClass RX1 = some m.cls := findClass_of_methodNamed B.named
  have hlocks := B.notSynchronized
  subst hsz
  have hD := hD0.self (sz := s.heap.size)
  generalize hAe : va_A (is_MW ha da (nI n, fb)) s.heap.size = A at hD ⊢
  have hA : ∀ q : Nat, s.heap.size ≤ q → A q := fun q h => by rw [← hAe]; exact Or.inr h
  have hS : va_S A s.heap s.heap [] := va_S.rf
  have hl := lv_entry ([.ref (ha 0), .int (nI v)]) (n := 2) (Nat.le_of_ble_eq_true rfl)
  rw [lg_entry_eq]
  generalize (lg_sl ([.ref (ha 0), .int (nI v)]) ++ List.replicate (2 - (lg_sl ([.ref (ha 0), .int (nI v)])).length) Slot.unset).toArray = ls at hl ⊢
  have hl : lv_has ls 2 [(0, .ref (ha 0)), (1, .int (nI v))] := hl
  refine lv_aload_n hx hb dX1_add_0 rfl (lv_at hl 0 rfl) ?_
  refine va_get (D := (dC, dI)) (ci := 1) (v := .int (nI n)) (C := RX1) (T := TX1) (N := 2) hx hb hts in_X1 hown hK hP 0 rfl rfl 0 (by decide) (hts _ q127) (fun _ h9 => h9) rfl dX1_add_1 ?_
  refine lv_bipush (v := nI 40) hx hb dX1_add_4 (by decide) ?_
  refine is_icmp_ne (a := n) (b := 40) (tgt := 11) hx hb (by omega) (by omega) dX1_add_6 (by decide) (fun h => ?_) (fun h => ?_)
  · refine lv_aload_n hx hb dX1_add_11 rfl (lv_at hl 0 rfl) ?_
    refine va_get (D := (dC, dI)) (ci := 1) (v := .ref (ha 1)) (C := RX1) (T := TX1) (N := 2) hx hb hts in_X1 hown hK hP 0 rfl rfl 1 (by decide) (hts _ q128) (fun _ h9 => h9) rfl dX1_add_12 ?_
    refine lv_aload_n hx hb dX1_add_15 rfl (lv_at hl 0 rfl) ?_
    refine va_get (D := (dC, dI)) (ci := 1) (v := .int (nI n)) (C := RX1) (T := TX1) (N := 2) hx hb hts in_X1 hown hK hP 0 rfl rfl 0 (by decide) (hts _ q127) (fun _ h9 => h9) rfl dX1_add_16 ?_
    refine lv_iload_n hx hb dX1_add_19 rfl (lv_at hl 1 rfl) ?_
    refine lv_sipush (v := nI 255) hx hb dX1_add_20 (by decide) ?_
    refine lv_iand hx hb dX1_add_23 ?_
    refine is_ti (nI (v % 256)) (is_255 hv) ?_
    refine is_iast (f := fb) hx hb hK hP hD hS 1 0 rfl rfl (by omega) (by decide) dX1_add_24 (fun H locs hP hD hS => ?_)
    have hP : va_P (dC, dI) is_cl (is_MW ha da (nI n, upd fb n (nI (v % 256)))) H := hP
    have hD : va_D A (is_MW ha da (nI n, upd fb n (nI (v % 256)))) := hD
    refine lv_aload_n hx hb dX1_add_25 rfl (lv_at hl 0 rfl) ?_
    refine lv_dup hx hb dX1_add_26 rfl ?_
    refine va_get (D := (dC, dI)) (ci := 1) (v := .int (nI n)) (C := RX1) (T := TX1) (N := 2) hx hb hts in_X1 hown hK hP 0 rfl rfl 0 (by decide) (hts _ q127) (fun _ h9 => h9) rfl dX1_add_27 ?_
    refine lv_iconst (v := nI 1) hx hb dX1_add_30 (by decide) ?_
    refine lv_iadd hx hb dX1_add_31 ?_
    refine is_ti (nI (n + 1)) (nI_add n 1) ?_
    refine va_put (D := (dC, dI)) (ci := 1) (v := .int (nI (n + 1))) (ty := .int) (C := RX1) (T := TX1) (N := 2) hx hb hts in_X1 tyX1 tyX1_ok nmX1 hown hK hP hD hS 0 rfl rfl 0 (by decide) (hts _ q127) (fun _ h9 => h9) rfl (by decide +kernel) rfl rfl (Nat.le_of_ble_eq_true rfl) dX1_add_32 (fun H locs hP hD hS => ?_)
    have hP : va_P (dC, dI) is_cl (is_MW ha da (nI (n + 1), upd fb n (nI (v % 256)))) H := hP
    have hD : va_D A (is_MW ha da (nI (n + 1), upd fb n (nI (v % 256)))) := hD
    refine lv_aload_n hx hb dX1_add_35 rfl (lv_at hl 0 rfl) ?_
    refine va_get (D := (dC, dI)) (ci := 1) (v := .int (nI (n + 1))) (C := RX1) (T := TX1) (N := 2) hx hb hts in_X1 hown hK hP 0 rfl rfl 0 (by decide) (hts _ q127) (fun _ h9 => h9) rfl dX1_add_36 ?_
    exact W.iret (v := nI (n + 1)) hx hb hr (fun t ht hW => ⟨⟨nI (n + 1), (nI (n + 1), upd fb n (nI (v % 256))), rfl, Or.inl ⟨by omega, rfl, rfl⟩, by rw [ht]; exact hP, va_K.moved hW.alike hK, hD⟩, hS.F ht⟩) hS.2.2 dX1_add_39
  · refine lv_iconst (v := (-1)) hx hb dX1_add_9 (by decide) ?_
    exact W.iret (v := -1) hx hb hr (fun t ht hW => ⟨⟨-1, (nI n, fb), rfl, Or.inr ⟨h, rfl, rfl⟩, by rw [ht]; exact hP, va_K.moved hW.alike hK, hD⟩, hS.F ht⟩) hS.2.2 dX1_add_10
set_option maxHeartbeats 4000000 in
set_option maxRecDepth 100000 in
/-- drop(number), no basket of that number -/
theorem metX1_dropN (l : Launch) (dC : Nat → ClassId) (dI : Nat → Nat → Nat) (ha : Nat → Nat) (da : Nat → ClassId) (sz : Nat) (n : Nat) (fb : Nat → Int32) (hn : n ≤ 40) (x : Int32) (hx0 : x < 0 ∨ nI n ≤ x) : Met l yX1_drop (ws_ yX1_drop cX1_drop 3 (some .int)) ({ frames := 0, cells := 0, slots := 0, locals := 0 }) (is_P dC dI (is_MT da) (is_MW ha da (nI n, fb)) sz [.ref (ha 0), .int x]) (va_Qi (fun (r : Int32) (u' : is_UM) => r = -1 ∧ u' = (nI n, fb)) (is_B dC dI (is_MT da) (is_MW ha da) (va_A (is_MW ha da (nI n, fb)) sz)) (va_A (is_MW ha da (nI n, fb)) sz)) 0 0 (va_A (is_MW ha da (nI n, fb)) sz) := by
  refine Met.ofW (cc := cX1_drop) (maxL := 3) (ret := (some .int)) (by decide) rfl ?_
  intro p e s m args below meth c s₁ B hml hv
  obtain ⟨rfl, hsz, hP, hK, hD0⟩ := hv
  have hx := B.exec
  have hb := B.bytes
  have hr := B.returns
  have hts := atoms_spec (ws := (ws_ yX1_drop cX1_drop 3 (some .int))) B.pre
  have hts : ∀ w ∈ lw_all, w.before _ s = true := fun w h => hts w (List.mem_cons_of_mem _ h)
  have hown : s.vm.findClass RX1 = some m.cls := findClass_of_methodNamed B.named
  have hlocks := B.notSynchronized
  subst hsz
  have hD := hD0.self (sz := s.heap.size)
  generalize hAe : va_A (is_MW ha da (nI n, fb)) s.heap.size = A at hD ⊢
  have hA : ∀ q : Nat, s.heap.size ≤ q → A q := fun q h => by rw [← hAe]; exact Or.inr h
  have hS : va_S A s.heap s.heap [] := va_S.rf
  have hl := lv_entry ([.ref (ha 0), .int x]) (n := 3) (Nat.le_of_ble_eq_true rfl)
  rw [lg_entry_eq]
  generalize (lg_sl ([.ref (ha 0), .int x]) ++ List.replicate (3 - (lg_sl ([.ref (ha 0), .int x])).length) Slot.unset).toArray = ls at hl ⊢
  have hl : lv_has ls 3 [(0, .ref (ha 0)), (1, .int x)] := hl
  refine lv_iload_n hx hb dX1_drop_0 rfl (lv_at hl 1 rfl) ?_
  refine lv_if_lt (tgt := 12) hx hb dX1_drop_1 (by decide) (fun h => ?_) (fun h => ?_)
  · refine lv_iconst (v := (-1)) hx hb dX1_drop_12 (by decide) ?_
    exact W.iret (v := -1) hx hb hr (fun t ht hW => ⟨⟨-1, (nI n, fb), rfl, ⟨rfl, rfl⟩, by rw [ht]; exact hP, va_K.moved hW.alike hK, hD⟩, hS.F ht⟩) hS.2.2 dX1_drop_13
  · refine lv_iload_n hx hb dX1_drop_4 rfl (lv_at hl 1 rfl) ?_
    refine lv_aload_n hx hb dX1_drop_5 rfl (lv_at hl 0 rfl) ?_
    refine va_get (D := (dC, dI)) (ci := 1) (v := .int (nI n)) (C := RX1) (T := TX1) (N := 2) hx hb hts in_X1 hown hK hP 0 rfl rfl 0 (by decide) (hts _ q127) (fun _ h9 => h9) rfl dX1_drop_6 ?_
    refine lv_icmp_lt (tgt := 14) hx hb dX1_drop_9 (by decide) (fun h2 => ?_) (fun h2 => ?_)
    · exact absurd h2 (by rcases hx0 with q | q; exact absurd q h; exact fun z => is_not_le.mpr z q)
    · refine lv_iconst (v := (-1)) hx hb dX1_drop_12 (by decide) ?_
      exact W.iret (v := -1) hx hb hr (fun t ht hW => ⟨⟨-1, (nI n, fb), rfl, ⟨rfl, rfl⟩, by rw [ht]; exact hP, va_K.moved hW.alike hK, hD⟩, hS.F ht⟩) hS.2.2 dX1_drop_13
set_option maxHeartbeats 4000000 in
set_option maxRecDepth 100000 in
/-- drop(number) -/
theorem metX1_drop (l : Launch) (dC : Nat → ClassId) (dI : Nat → Nat → Nat) (ha : Nat → Nat) (da : Nat → ClassId) (sz : Nat) (n : Nat) (fb : Nat → Int32) (hn : n ≤ 40) (j : Nat) (hj : j < n) : Met l yX1_drop (ws_ yX1_drop cX1_drop 3 (some .int)) ({ frames := 0, cells := 0, slots := 0, locals := 0 }) (is_P dC dI (is_MT da) (is_MW ha da (nI n, fb)) sz [.ref (ha 0), .int (nI j)]) (va_Qi (fun (r : Int32) (u' : is_UM) => r = nI (n - 1) ∧ u' = (nI (n - 1), is_dr fb j (n - 1))) (is_B dC dI (is_MT da) (is_MW ha da) (va_A (is_MW ha da (nI n, fb)) sz)) (va_A (is_MW ha da (nI n, fb)) sz)) 0 0 (va_A (is_MW ha da (nI n, fb)) sz) := by
  refine Met.ofW (cc := cX1_drop) (maxL := 3) (ret := (some .int)) (by decide) rfl ?_
  intro p e s m args below meth c s₁ B hml hv
  obtain ⟨rfl, hsz, hP, hK, hD0⟩ := hv
  have hx := B.exec
  have hb := B.bytes
  have hr := B.returns
  have hts := atoms_spec (ws := (ws_ yX1_drop cX1_drop 3 (some .int))) B.pre
  have hts : ∀ w ∈ lw_all, w.before _ s = true := fun w h => hts w (List.mem_cons_of_mem _ h)
  have hown : s.vm.findClass RX1 = some m.cls := findClass_of_methodNamed B.named
  have hlocks := B.notSynchronized
  subst hsz
  have hD := hD0.self (sz := s.heap.size)
  generalize hAe : va_A (is_MW ha da (nI n, fb)) s.heap.size = A at hD ⊢
  have hA : ∀ q : Nat, s.heap.size ≤ q → A q := fun q h => by rw [← hAe]; exact Or.inr h
  have hS : va_S A s.heap s.heap [] := va_S.rf
  have hl := lv_entry ([.ref (ha 0), .int (nI j)]) (n := 3) (Nat.le_of_ble_eq_true rfl)
  rw [lg_entry_eq]
  generalize (lg_sl ([.ref (ha 0), .int (nI j)]) ++ List.replicate (3 - (lg_sl ([.ref (ha 0), .int (nI j)])).length) Slot.unset).toArray = ls at hl ⊢
  have hl : lv_has ls 3 [(0, .ref (ha 0)), (1, .int (nI j))] := hl
  refine lv_iload_n hx hb dX1_drop_0 rfl (lv_at hl 1 rfl) ?_
  refine is_if_lt (tgt := 12) hx hb (by omega) dX1_drop_1 (by decide) ?_
  refine lv_iload_n hx hb dX1_drop_4 rfl (lv_at hl 1 rfl) ?_
  refine lv_aload_n hx hb dX1_drop_5 rfl (lv_at hl 0 rfl) ?_
  refine va_get (D := (dC, dI)) (ci := 1) (v := .int (nI n)) (C := RX1) (T := TX1) (N := 2) hx hb hts in_X1 hown hK hP 0 rfl rfl 0 (by decide) (hts _ q127) (fun _ h9 => h9) rfl dX1_drop_6 ?_
  refine is_icmp_lt (a := j) (b := n) (tgt := 14) hx hb (by omega) (by omega) dX1_drop_9 (by decide) (fun h => ?_) (fun h => ?_)
  · refine lv_aload_n hx hb dX1_drop_14 rfl (lv_at hl 0 rfl) ?_
    refine lv_dup hx hb dX1_drop_15 rfl ?_
    refine va_get (D := (dC, dI)) (ci := 1) (v := .int (nI n)) (C := RX1) (T := TX1) (N := 2) hx hb hts in_X1 hown hK hP 0 rfl rfl 0 (by decide) (hts _ q127) (fun _ h9 => h9) rfl dX1_drop_16 ?_
    refine lv_iconst (v := nI 1) hx hb dX1_drop_19 (by decide) ?_
    refine lv_isub hx hb dX1_drop_20 ?_
    refine is_ti (nI (n - 1)) (pk_sub (by omega)) ?_
    refine va_put (D := (dC, dI)) (ci := 1) (v := .int (nI (n - 1))) (ty := .int) (C := RX1) (T := TX1) (N := 2) hx hb hts in_X1 tyX1 tyX1_ok nmX1 hown hK hP hD hS 0 rfl rfl 0 (by decide) (hts _ q127) (fun _ h9 => h9) rfl (by decide +kernel) rfl rfl (Nat.le_of_ble_eq_true rfl) dX1_drop_21 (fun H locs hP hD hS => ?_)
    have hP : va_P (dC, dI) is_cl (is_MW ha da (nI (n - 1), fb)) H := hP
    have hD : va_D A (is_MW ha da (nI (n - 1), fb)) := hD
    refine lv_iload_n hx hb dX1_drop_24 rfl (lv_at hl 1 rfl) ?_
    refine lv_istore_n (lv' := [(2, .int (nI j)), (0, .ref (ha 0)), (1, .int (nI j))]) hx hb dX1_drop_25 rfl hl (by decide) rfl (fun ls hl => ?_)
    have lo : ∀ (j2 : Nat) (k : Nat) (fb1 : Nat → Int32), n - 1 < k + j2 → k ≤ n - 1 → j ≤ k → fb1 = is_dr fb j k → ∀ (H : Heap) (locs : List Loc) (ls : Array Slot), va_P (dC, dI) is_cl (is_MW ha da (nI (n - 1), fb1)) H → va_D A (is_MW ha da (nI (n - 1), fb1)) → va_S A s.heap H locs → lv_has ls 3 [(2, .int (nI k)), (0, .ref (ha 0)), (1, .int (nI j))] → W p l e (headSpec (ws_ yX1_drop cX1_drop 3 (some .int)) ({ frames := 0, cells := 0, slots := 0, locals := 0 })).room s m ([.ref (ha 0), .int (nI j)] : List Value).toArray below meth c H locs 0 0 (MQ below (va_Qi (fun (r : Int32) (u' : is_UM) => r = nI (n - 1) ∧ u' = (nI (n - 1), is_dr fb j (n - 1))) (is_B dC dI (is_MT da) (is_MW ha da) A) A) ([.ref (ha 0), .int (nI j)] : List Value).toArray s 0 0 A) (F0 m 26 ls []) := by
      intro j2
      induction j2 with
      | zero => intro k fb1 h1 h2 h3 h4; omega
      | succ j2 ihlo =>
        intro k fb1 h1 h2 h3 h4 H locs ls hP hD hS hl
        refine lv_iload_n hx hb dX1_drop_26 rfl (lv_at hl 0 rfl) ?_
        refine lv_aload_n hx hb dX1_drop_27 rfl (lv_at hl 1 rfl) ?_
        refine va_get (D := (dC, dI)) (ci := 1) (v := .int (nI (n - 1))) (C := RX1) (T := TX1) (N := 2) hx hb hts in_X1 hown hK hP 0 rfl rfl 0 (by decide) (hts _ q127) (fun _ h9 => h9) rfl dX1_drop_28 ?_
        refine is_icmp_ge (a := k) (b := (n - 1)) (tgt := 54) hx hb (by omega) (by omega) dX1_drop_31 (by decide) (fun hk => ?_) (fun hk => ?_)
        · refine lv_aload_n hx hb dX1_drop_54 rfl (lv_at hl 1 rfl) ?_
          refine va_get (D := (dC, dI)) (ci := 1) (v := .int (nI (n - 1))) (C := RX1) (T := TX1) (N := 2) hx hb hts in_X1 hown hK hP 0 rfl rfl 0 (by decide) (hts _ q127) (fun _ h9 => h9) rfl dX1_drop_55 ?_
          exact W.iret (v := nI (n - 1)) hx hb hr (fun t ht hW => ⟨⟨nI (n - 1), (nI (n - 1), fb1), rfl, ⟨rfl, by rw [h4, show k = n - 1 by omega]⟩, by rw [ht]; exact hP, va_K.moved hW.alike hK, hD⟩, hS.F ht⟩) hS.2.2 dX1_drop_58
        · refine lv_aload_n hx hb dX1_drop_34 rfl (lv_at hl 1 rfl) ?_
          refine va_get (D := (dC, dI)) (ci := 1) (v := .ref (ha 1)) (C := RX1) (T := TX1) (N := 2) hx hb hts in_X1 hown hK hP 0 rfl rfl 1 (by decide) (hts _ q128) (fun _ h9 => h9) rfl dX1_drop_35 ?_
          refine lv_iload_n hx hb dX1_drop_38 rfl (lv_at hl 0 rfl) ?_
          refine lv_aload_n hx hb dX1_drop_39 rfl (lv_at hl 1 rfl) ?_
          refine va_get (D := (dC, dI)) (ci := 1) (v := .ref (ha 1)) (C := RX1) (T := TX1) (N := 2) hx hb hts in_X1 hown hK hP 0 rfl rfl 1 (by decide) (hts _ q128) (fun _ h9 => h9) rfl dX1_drop_40 ?_
          refine lv_iload_n hx hb dX1_drop_43 rfl (lv_at hl 0 rfl) ?_
          refine lv_iconst (v := nI 1) hx hb dX1_drop_44 (by decide) ?_
          refine lv_iadd hx hb dX1_drop_45 ?_
          refine is_ti (nI (k + 1)) (nI_add k 1) ?_
          refine is_iald (f := fb1) hx hb hK hP 1 0 rfl rfl (by omega) (by decide) dX1_drop_46 ?_
          refine is_ti (fb (k + 1)) (by rw [h4, is_dr_n]) ?_
          refine is_iast (f := fb1) hx hb hK hP hD hS 1 0 rfl rfl (by omega) (by decide) dX1_drop_47 (fun H locs hP hD hS => ?_)
          have hP : va_P (dC, dI) is_cl (is_MW ha da (nI (n - 1), upd fb1 k (fb (k + 1)))) H := hP
          have hD : va_D A (is_MW ha da (nI (n - 1), upd fb1 k (fb (k + 1)))) := hD
          refine lv_iinc (v := nI (k + 1)) (lv' := [(2, .int (nI (k + 1))), (0, .ref (ha 0)), (1, .int (nI j))]) hx hb dX1_drop_48 hl (k := 0) rfl (is_inc k) (by decide) rfl (fun ls hl => ?_)
          refine lv_goto (tgt := 26) hx hb dX1_drop_51 (by decide) ?_
          exact ihlo (k + 1) _ (by omega) (by omega) (by omega) (by rw [h4, is_dr_s fb h3]) _ _ _ hP hD hS (lv_sub hl [0, 1, 2] rfl)
    exact lo n j fb (by omega) (by omega) (by omega) (is_dr_0 fb j) _ _ _ hP hD hS (lv_sub hl [0, 1, 2] rfl)
  · omega
set_option maxHeartbeats 4000000 in
set_option maxRecDepth 100000 in
/-- support(set) -/
theorem metX1_support (l : Launch) (dC : Nat → ClassId) (dI : Nat → Nat → Nat) (ha : Nat → Nat) (da : Nat → ClassId) (sz : Nat) (b : Nat → Nat) (n : Nat) (fb : Nat → Int32) (hn : n ≤ 40) (hbk : is_Bk fb n b) (v : Nat) (hv : v < 2 ^ 32) : Met l yX1_support (ws_ yX1_support cX1_support 5 (some .int)) ({ frames := 0, cells := 0, slots := 0, locals := 0 }) (is_P dC dI (is_MT da) (is_MW ha da (nI n, fb)) sz [.ref (ha 0), .int (nI v)]) (va_Qi (fun (r : Int32) (u' : is_UM) => r = nI (is_sup b n (v % 256)) ∧ u' = (nI n, fb)) (is_B dC dI (is_MT da) (is_MW ha da) (va_A (is_MW ha da (nI n, fb)) sz)) (va_A (is_MW ha da (nI n, fb)) sz)) 0 0 (va_A (is_MW ha da (nI n, fb)) sz) := by
  refine Met.ofW (cc := cX1_support) (maxL := 5) (ret := (some .int)) (by decide) rfl ?_
  intro p e s m args below meth c s₁ B hml hv
  obtain ⟨rfl, hsz, hP, hK, hD0⟩ := hv
  have hx := B.exec
  have hb := B.bytes
  have hr := B.returns
  have hts := atoms_spec (ws := (ws_ yX1_support cX1_support 5 (some .int))) B.pre
  have hts : ∀ w ∈ lw_all, w.before _ s = true := fun w h => hts w (List.mem_cons_of_mem _ h)
  have hown : s.vm.findClass RX1 = some m.cls := findClass_of_methodNamed B.named
  have hlocks := B.notSynchronized
  subst hsz
  have hD := hD0.self (sz := s.heap.size)
  generalize hAe : va_A (is_MW ha da (nI n, fb)) s.heap.size = A at hD ⊢
  have hA : ∀ q : Nat, s.heap.size ≤ q → A q := fun q h => by rw [← hAe]; exact Or.inr h
  have hS : va_S A s.heap s.heap [] := va_S.rf
  have hl := lv_entry ([.ref (ha 0), .int (nI v)]) (n := 5) (Nat.le_of_ble_eq_true rfl)
  rw [lg_entry_eq]
  generalize (lg_sl ([.ref (ha 0), .int (nI v)]) ++ List.replicate (5 - (lg_sl ([.ref (ha 0), .int (nI v)])).length) Slot.unset).toArray = ls at hl ⊢
  have hl : lv_has ls 5 [(0, .ref (ha 0)), (1, .int (nI v))] := hl
  refine lv_iload_n hx hb dX1_support_0 rfl (lv_at hl 1 rfl) ?_
  refine lv_sipush (v := nI 255) hx hb dX1_support_1 (by decide) ?_
  refine lv_iand hx hb dX1_support_4 ?_
  refine is_ti (nI (v % 256)) (is_255 hv) ?_
  have hs : v % 256 < 256 := Nat.mod_lt _ (by decide)
  generalize v % 256 = s0 at hs ⊢
  refine lv_istore_n (lv' := [(2, .int (nI s0)), (0, .ref (ha 0)), (1, .int (nI v))]) hx hb dX1_support_5 rfl hl (by decide) rfl (fun ls hl => ?_)
  refine lv_iconst (v := nI 0) hx hb dX1_support_6 (by decide) ?_
  refine lv_istore_n (lv' := [(3, .int (nI 0)), (2, .int (nI s0)), (0, .ref (ha 0)), (1, .int (nI v))]) hx hb dX1_support_7 rfl hl (by decide) rfl (fun ls hl => ?_)
  refine lv_iconst (v := nI 0) hx hb dX1_support_8 (by decide) ?_
  refine lv_istore (lv' := [(4, .int (nI 0)), (3, .int (nI 0)), (2, .int (nI s0)), (0, .ref (ha 0)), (1, .int (nI v))]) hx hb dX1_support_9 hl (by decide) rfl (fun ls hl => ?_)
  have lo : ∀ (j : Nat) (i x : Nat), n < i + j → i ≤ n → x = fb_ct (fun k => decide (b k &&& s0 = s0)) i → ∀ (H : Heap) (locs : List Loc) (ls : Array Slot), va_P (dC, dI) is_cl (is_MW ha da (nI n, fb)) H → va_D A (is_MW ha da (nI n, fb)) → va_S A s.heap H locs → lv_has ls 5 [(4, .int (nI i)), (3, .int (nI x)), (2, .int (nI s0)), (0, .ref (ha 0)), (1, .int (nI v))] → W p l e (headSpec (ws_ yX1_support cX1_support 5 (some .int)) ({ frames := 0, cells := 0, slots := 0, locals := 0 })).room s m ([.ref (ha 0), .int (nI v)] : List Value).toArray below meth c H locs 0 0 (MQ below (va_Qi (fun (r : Int32) (u' : is_UM) => r = nI (is_sup b n (s0)) ∧ u' = (nI n, fb)) (is_B dC dI (is_MT da) (is_MW ha da) A) A) ([.ref (ha 0), .int (nI v)] : List Value).toArray s 0 0 A) (F0 m 11 ls []) := by
    intro j
    induction j with
    | zero => intro i x h1 h2 h3; omega
    | succ j ihlo =>
      intro i x h1 h2 h3 H locs ls hP hD hS hl
      refine lv_iload hx hb dX1_support_11 (lv_at hl 0 rfl) ?_
      refine lv_aload_n hx hb dX1_support_13 rfl (lv_at hl 3 rfl) ?_
      refine va_get (D := (dC, dI)) (ci := 1) (v := .int (nI n)) (C := RX1) (T := TX1) (N := 2) hx hb hts in_X1 hown hK hP 0 rfl rfl 0 (by decide) (hts _ q127) (fun _ h9 => h9) rfl dX1_support_14 ?_
      refine is_icmp_ge (a := i) (b := n) (tgt := 42) hx hb (by omega) (by omega) dX1_support_17 (by decide) (fun hi => ?_) (fun hi => ?_)
      · refine lv_iload_n hx hb dX1_support_42 rfl (lv_at hl 1 rfl) ?_
        exact W.iret (v := nI x) hx hb hr (fun t ht hW => ⟨⟨nI x, (nI n, fb), rfl, ⟨by rw [h3, show i = n by omega]; rfl, rfl⟩, by rw [ht]; exact hP, va_K.moved hW.alike hK, hD⟩, hS.F ht⟩) hS.2.2 dX1_support_43
      · refine lv_aload_n hx hb dX1_support_20 rfl (lv_at hl 3 rfl) ?_
        refine va_get (D := (dC, dI)) (ci := 1) (v := .ref (ha 1)) (C := RX1) (T := TX1) (N := 2) hx hb hts in_X1 hown hK hP 0 rfl rfl 1 (by decide) (hts _ q128) (fun _ h9 => h9) rfl dX1_support_21 ?_
        refine lv_iload hx hb dX1_support_24 (lv_at hl 0 rfl) ?_
        refine is_iald (f := fb) hx hb hK hP 1 0 rfl rfl (by omega) (by decide) dX1_support_26 ?_
        refine is_ti (nI (b i)) ((hbk i hi).1) ?_
        refine lv_iload_n hx hb dX1_support_27 rfl (lv_at hl 2 rfl) ?_
        refine lv_iand hx hb dX1_support_28 ?_
        refine is_ti (nI (b i &&& s0)) (is_and _ _) ?_
        have hle : b i &&& s0 ≤ s0 := Nat.and_le_right
        refine lv_iload_n hx hb dX1_support_29 rfl (lv_at hl 2 rfl) ?_
        refine is_icmp_ne (a := (b i &&& s0)) (b := s0) (tgt := 36) hx hb (by omega) (by omega) dX1_support_30 (by decide) (fun he => ?_) (fun he => ?_)
        · refine lv_iinc (v := nI (i + 1)) (lv' := [(4, .int (nI (i + 1))), (3, .int (nI x)), (2, .int (nI s0)), (0, .ref (ha 0)), (1, .int (nI v))]) hx hb dX1_support_36 hl (k := 0) rfl (is_inc i) (by decide) rfl (fun ls hl => ?_)
          refine lv_goto (tgt := 11) hx hb dX1_support_39 (by decide) ?_
          exact ihlo (i + 1) x (by omega) (by omega) (by rw [fb_ct_succ, decide_eq_false he, h3]; rfl) _ _ _ hP hD hS (lv_sub hl [0, 1, 2, 3, 4] rfl)
        · refine lv_iinc (v := nI (x + 1)) (lv' := [(3, .int (nI (x + 1))), (4, .int (nI i)), (2, .int (nI s0)), (0, .ref (ha 0)), (1, .int (nI v))]) hx hb dX1_support_33 hl (k := 1) rfl (is_inc x) (by decide) rfl (fun ls hl => ?_)
          refine lv_iinc (v := nI (i + 1)) (lv' := [(4, .int (nI (i + 1))), (3, .int (nI (x + 1))), (2, .int (nI s0)), (0, .ref (ha 0)), (1, .int (nI v))]) hx hb dX1_support_36 hl (k := 1) rfl (is_inc i) (by decide) rfl (fun ls hl => ?_)
          refine lv_goto (tgt := 11) hx hb dX1_support_39 (by decide) ?_
          exact ihlo (i + 1) (x + 1) (by omega) (by omega) (by rw [fb_ct_succ, decide_eq_true he, h3]; rfl) _ _ _ hP hD hS (lv_sub hl [0, 1, 2, 3, 4] rfl)
  exact lo (n + 1) 0 0 (by omega) (by omega) rfl _ _ _ hP hD hS (lv_sub hl [0, 1, 2, 3, 4] rfl)
set_option maxHeartbeats 4000000 in
set_option maxRecDepth 100000 in
/-- isOften(set, m) -/
theorem metX1_isOften (l : Launch) (dC : Nat → ClassId) (dI : Nat → Nat → Nat) (ha : Nat → Nat) (da : Nat → ClassId) (sz : Nat) (b : Nat → Nat) (n : Nat) (fb : Nat → Int32) (hn : n ≤ 40) (hbk : is_Bk fb n b) (S : Nat) (mm : Int32) (hS8 : S < 256) : Met l yX1_isOften (ws_ yX1_isOften cX1_isOften 3 (some .boolean)) ({ frames := 1, cells := 0, slots := 0, locals := 24 }) (is_P dC dI (is_MT da) (is_MW ha da (nI n, fb)) sz [.ref (ha 0), .int (nI S), .int mm]) (va_Qi (fun (r : Int32) (u' : is_UM) => r = (if is_of b n mm S then nI 1 else nI 0) ∧ u' = (nI n, fb)) (is_B dC dI (is_MT da) (is_MW ha da) (va_A (is_MW ha da (nI n, fb)) sz)) (va_A (is_MW ha da (nI n, fb)) sz)) 0 0 (va_A (is_MW ha da (nI n, fb)) sz) := by
  refine Met.ofW (cc := cX1_isOften) (maxL := 3) (ret := (some .boolean)) (by decide) rfl ?_
  intro p e s m args below meth c s₁ B hml hv
  obtain ⟨rfl, hsz, hP, hK, hD0⟩ := hv
  have hx := B.exec
  have hb := B.bytes
  have hr := B.returns
  have hts := atoms_spec (ws := (ws_ yX1_isOften cX1_isOften 3 (some .boolean))) B.pre
  have hts : ∀ w ∈ lw_all, w.before _ s = true := fun w h => hts w (List.mem_cons_of_mem _ h)
  have hown : s.vm.findClass RX1 = some m.cls := findClass_of_methodNamed B.named
  have hlocks := B.notSynchronized
  subst hsz
  have hD := hD0.self (sz := s.heap.size)
  generalize hAe : va_A (is_MW ha da (nI n, fb)) s.heap.size = A at hD ⊢
  have hA : ∀ q : Nat, s.heap.size ≤ q → A q := fun q h => by rw [← hAe]; exact Or.inr h
  have hS : va_S A s.heap s.heap [] := va_S.rf
  have hl := lv_entry ([.ref (ha 0), .int (nI S), .int mm]) (n := 3) (Nat.le_of_ble_eq_true rfl)
  rw [lg_entry_eq]
  generalize (lg_sl ([.ref (ha 0), .int (nI S), .int mm]) ++ List.replicate (3 - (lg_sl ([.ref (ha 0), .int (nI S), .int mm])).length) Slot.unset).toArray = ls at hl ⊢
  have hl : lv_has ls 3 [(0, .ref (ha 0)), (1, .int (nI S)), (2, .int mm)] := hl
  refine lv_iload_n hx hb dX1_isOften_0 rfl (lv_at hl 2 rfl) ?_
  refine lv_iconst (v := nI 1) hx hb dX1_isOften_1 (by decide) ?_
  refine lv_icmp_lt (tgt := 22) hx hb dX1_isOften_2 (by decide) (fun h1 => ?_) (fun h1 => ?_)
  · refine lv_iconst (v := nI 0) hx hb dX1_isOften_22 (by decide) ?_
    exact W.zret (v := nI 0) hx hb hr rfl (fun t ht hW => ⟨⟨nI 0, (nI n, fb), rfl, ⟨by rw [is_of_f (fun z => is_not_le.mpr h1 z.1)]; rfl, rfl⟩, by rw [ht]; exact hP, va_K.moved hW.alike hK, hD⟩, hS.F ht⟩) hS.2.2 dX1_isOften_23
  · refine lv_iload_n hx hb dX1_isOften_5 rfl (lv_at hl 1 rfl) ?_
    refine is_if_eq (a := S) (tgt := 22) hx hb (by omega) dX1_isOften_6 (by decide) (fun h2 => ?_) (fun h2 => ?_)
    · refine lv_iconst (v := nI 0) hx hb dX1_isOften_22 (by decide) ?_
      exact W.zret (v := nI 0) hx hb hr rfl (fun t ht hW => ⟨⟨nI 0, (nI n, fb), rfl, ⟨by rw [is_of_f (fun z => z.2.1 h2)]; rfl, rfl⟩, by rw [ht]; exact hP, va_K.moved hW.alike hK, hD⟩, hS.F ht⟩) hS.2.2 dX1_isOften_23
    · refine lv_aload_n hx hb dX1_isOften_9 rfl (lv_at hl 0 rfl) ?_
      refine lv_iload_n hx hb dX1_isOften_10 rfl (lv_at hl 1 rfl) ?_
      refine is_cVi (Wd := is_MW ha da) (u := (nI n, fb)) (As := [.int (nI S)]) (rest := []) (b := ha 0) ⟨hx, hb, hml, hown, hts⟩ (metX1_support l dC dI ha da _ b n fb hn hbk S (by have := hS8; omega)) (cwV 1 hts (lw_V q154 q143 q144 q12 q145) rfl rfl rfl (by decide +kernel) ⟨Nat.le_of_ble_eq_true rfl, Nat.le_of_ble_eq_true rfl⟩) (va_recv hK hP (ci := 1) (q0 := 0) rfl rfl) hK hP hD hS hA rfl hl.1 rfl (Nat.le_of_ble_eq_true rfl) dX1_isOften_11 ⟨Nat.zero_le _, Nat.zero_le _⟩ (fun r u' H locs hw hP hD hS => ?_)
      obtain ⟨rfl, rfl⟩ := hw
      have hP : va_P (dC, dI) is_cl (is_MW ha da (nI n, fb)) H := hP
      have hD : va_D A (is_MW ha da (nI n, fb)) := hD
      refine is_ti (nI (is_sup b n S)) (by rw [Nat.mod_eq_of_lt (hS8)]) ?_
      refine lv_iload_n hx hb dX1_isOften_14 rfl (lv_at hl 2 rfl) ?_
      refine lv_icmp_lt (tgt := 22) hx hb dX1_isOften_15 (by decide) (fun h3 => ?_) (fun h3 => ?_)
      · refine lv_iconst (v := nI 0) hx hb dX1_isOften_22 (by decide) ?_
        exact W.zret (v := nI 0) hx hb hr rfl (fun t ht hW => ⟨⟨nI 0, (nI n, fb), rfl, ⟨by rw [is_of_f (fun z => is_not_le.mpr h3 z.2.2)]; rfl, rfl⟩, by rw [ht]; exact hP, va_K.moved hW.alike hK, hD⟩, hS.F ht⟩) hS.2.2 dX1_isOften_23
      · refine lv_iconst (v := nI 1) hx hb dX1_isOften_18 (by decide) ?_
        refine lv_goto (tgt := 23) hx hb dX1_isOften_19 (by decide) ?_
        exact W.zret (v := nI 1) hx hb hr rfl (fun t ht hW => ⟨⟨nI 1, (nI n, fb), rfl, ⟨by rw [is_of_iff.mpr ⟨Classical.byContradiction fun q => h1 (is_not_le.mp q), h2, Classical.byContradiction fun q => h3 (is_not_le.mp q)⟩]; rfl, rfl⟩, by rw [ht]; exact hP, va_K.moved hW.alike hK, hD⟩, hS.F ht⟩) hS.2.2 dX1_isOften_23
set_option maxHeartbeats 4000000 in
set_option maxRecDepth 100000 in
/-- often(m) -/
theorem metX1_often (l : Launch) (dC : Nat → ClassId) (dI : Nat → Nat → Nat) (ha : Nat → Nat) (da : Nat → ClassId) (sz : Nat) (b : Nat → Nat) (n : Nat) (fb : Nat → Int32) (hn : n ≤ 40) (hbk : is_Bk fb n b) (mm : Int32) : Met l yX1_often (ws_ yX1_often cX1_often 4 (some .int)) ({ frames := 2, cells := 0, slots := 0, locals := 46 }) (is_P dC dI (is_MT da) (is_MW ha da (nI n, fb)) sz [.ref (ha 0), .int mm]) (va_Qi (fun (r : Int32) (u' : is_UM) => r = is_fld (is_of b n mm) is_fO 256 ∧ u' = (nI n, fb)) (is_B dC dI (is_MT da) (is_MW ha da) (va_A (is_MW ha da (nI n, fb)) sz)) (va_A (is_MW ha da (nI n, fb)) sz)) 0 0 (va_A (is_MW ha da (nI n, fb)) sz) := by
  refine Met.ofW (cc := cX1_often) (maxL := 4) (ret := (some .int)) (by decide) rfl ?_
  intro p e s m args below meth c s₁ B hml hv
  obtain ⟨rfl, hsz, hP, hK, hD0⟩ := hv
  have hx := B.exec
  have hb := B.bytes
  have hr := B.returns
  have hts := atoms_spec (ws := (ws_ yX1_often cX1_often 4 (some .int))) B.pre
  have hts : ∀ w ∈ lw_all, w.before _ s = true := fun w h => hts w (List.mem_cons_of_mem _ h)
  have hown : s.vm.findClass RX1 = some m.cls := findClass_of_methodNamed B.named
  have hlocks := B.notSynchronized
  subst hsz
  have hD := hD0.self (sz := s.heap.size)
  generalize hAe : va_A (is_MW ha da (nI n, fb)) s.heap.size = A at hD ⊢
  have hA : ∀ q : Nat, s.heap.size ≤ q → A q := fun q h => by rw [← hAe]; exact Or.inr h
  have hS : va_S A s.heap s.heap [] := va_S.rf
  have hl := lv_entry ([.ref (ha 0), .int mm]) (n := 4) (Nat.le_of_ble_eq_true rfl)
  rw [lg_entry_eq]
  generalize (lg_sl ([.ref (ha 0), .int mm]) ++ List.replicate (4 - (lg_sl ([.ref (ha 0), .int mm])).length) Slot.unset).toArray = ls at hl ⊢
  have hl : lv_has ls 4 [(0, .ref (ha 0)), (1, .int mm)] := hl
  refine lv_iconst (v := nI 0) hx hb dX1_often_0 (by decide) ?_
  refine lv_istore_n (lv' := [(2, .int (nI 0)), (0, .ref (ha 0)), (1, .int mm)]) hx hb dX1_often_1 rfl hl (by decide) rfl (fun ls hl => ?_)
  refine lv_iconst (v := nI 1) hx hb dX1_often_2 (by decide) ?_
  refine lv_istore_n (lv' := [(3, .int (nI 1)), (2, .int (nI 0)), (0, .ref (ha 0)), (1, .int mm)]) hx hb dX1_often_3 rfl hl (by decide) rfl (fun ls hl => ?_)
  have lo : ∀ (j : Nat) (s0 : Nat) (acc : Int32), 256 < s0 + j → s0 ≤ 256 → acc = is_fld (is_of b n mm) is_fO s0 → ∀ (H : Heap) (locs : List Loc) (ls : Array Slot), va_P (dC, dI) is_cl (is_MW ha da (nI n, fb)) H → va_D A (is_MW ha da (nI n, fb)) → va_S A s.heap H locs → lv_has ls 4 [(3, .int (nI s0)), (2, .int acc), (0, .ref (ha 0)), (1, .int mm)] → W p l e (headSpec (ws_ yX1_often cX1_often 4 (some .int)) ({ frames := 2, cells := 0, slots := 0, locals := 46 })).room s m ([.ref (ha 0), .int mm] : List Value).toArray below meth c H locs 0 0 (MQ below (va_Qi (fun (r : Int32) (u' : is_UM) => r = is_fld (is_of b n mm) is_fO 256 ∧ u' = (nI n, fb)) (is_B dC dI (is_MT da) (is_MW ha da) A) A) ([.ref (ha 0), .int mm] : List Value).toArray s 0 0 A) (F0 m 4 ls []) := by
    intro j
    induction j with
    | zero => intro s0 acc h1 h2 h3; omega
    | succ j ihlo =>
      intro s0 acc h1 h2 h3 H locs ls hP hD hS hl
      refine lv_iload_n hx hb dX1_often_4 rfl (lv_at hl 0 rfl) ?_
      refine lv_sipush (v := nI 256) hx hb dX1_often_5 (by decide) ?_
      refine is_icmp_ge (a := s0) (b := 256) (tgt := 29) hx hb (by omega) (by omega) dX1_often_8 (by decide) (fun hs => ?_) (fun hs => ?_)
      · refine lv_iload_n hx hb dX1_often_29 rfl (lv_at hl 1 rfl) ?_
        exact W.iret (v := acc) hx hb hr (fun t ht hW => ⟨⟨acc, (nI n, fb), rfl, ⟨by rw [h3, show s0 = 256 by omega], rfl⟩, by rw [ht]; exact hP, va_K.moved hW.alike hK, hD⟩, hS.F ht⟩) hS.2.2 dX1_often_30
      · refine lv_aload_n hx hb dX1_often_11 rfl (lv_at hl 2 rfl) ?_
        refine lv_iload_n hx hb dX1_often_12 rfl (lv_at hl 0 rfl) ?_
        refine lv_iload_n hx hb dX1_often_13 rfl (lv_at hl 3 rfl) ?_
        refine is_cVi (Wd := is_MW ha da) (u := (nI n, fb)) (As := [.int (nI s0), .int mm]) (rest := []) (b := ha 0) ⟨hx, hb, hml, hown, hts⟩ (metX1_isOften l dC dI ha da _ b n fb hn hbk s0 mm (by omega)) (cwV 2 hts (lw_V q150 q152 qs7 q12 q153) rfl rfl rfl (by decide +kernel) ⟨Nat.le_of_ble_eq_true rfl, Nat.le_of_ble_eq_true rfl⟩) (va_recv hK hP (ci := 1) (q0 := 0) rfl rfl) hK hP hD hS hA rfl hl.1 rfl (Nat.le_of_ble_eq_true rfl) dX1_often_14 ⟨Nat.zero_le _, Nat.zero_le _⟩ (fun r u' H locs hw hP hD hS => ?_)
        obtain ⟨rfl, rfl⟩ := hw
        have hP : va_P (dC, dI) is_cl (is_MW ha da (nI n, fb)) H := hP
        have hD : va_D A (is_MW ha da (nI n, fb)) := hD
        cases hof : is_of b n mm s0
        · refine is_ti (nI 0) (rfl) ?_
          refine is_if_eq (a := 0) (tgt := 23) hx hb (by omega) dX1_often_17 (by decide) (fun hz => ?_) (fun hz => ?_)
          · refine lv_iinc (v := nI (s0 + 1)) (lv' := [(3, .int (nI (s0 + 1))), (2, .int acc), (0, .ref (ha 0)), (1, .int mm)]) hx hb dX1_often_23 hl (k := 0) rfl (is_inc s0) (by decide) rfl (fun ls hl => ?_)
            refine lv_goto (tgt := 4) hx hb dX1_often_26 (by decide) ?_
            exact ihlo (s0 + 1) acc (by omega) (by omega) (by rw [is_fld_f hof, h3]) _ _ _ hP hD hS (lv_sub hl [0, 1, 2, 3] rfl)
          · exact absurd rfl hz
        · refine is_ti (nI 1) (rfl) ?_
          refine is_if_eq (a := 1) (tgt := 23) hx hb (by omega) dX1_often_17 (by decide) (fun hz => ?_) (fun hz => ?_)
          · exact absurd hz (by decide)
          · refine lv_iinc (v := acc + 1) (lv' := [(2, .int (acc + 1)), (3, .int (nI s0)), (0, .ref (ha 0)), (1, .int mm)]) hx hb dX1_often_20 hl (k := 1) rfl (rfl) (by decide) rfl (fun ls hl => ?_)
            refine lv_iinc (v := nI (s0 + 1)) (lv' := [(3, .int (nI (s0 + 1))), (2, .int (acc + 1)), (0, .ref (ha 0)), (1, .int mm)]) hx hb dX1_often_23 hl (k := 1) rfl (is_inc s0) (by decide) rfl (fun ls hl => ?_)
            refine lv_goto (tgt := 4) hx hb dX1_often_26 (by decide) ?_
            exact ihlo (s0 + 1) _ (by omega) (by omega) (by rw [is_fld_t hof, h3]; rfl) _ _ _ hP hD hS (lv_sub hl [0, 1, 2, 3] rfl)
  exact lo 256 1 _ (by omega) (by omega) is_fld_1 _ _ _ hP hD hS (lv_sub hl [0, 1, 2, 3] rfl)
set_option maxHeartbeats 4000000 in
set_option maxRecDepth 100000 in
/-- isFull(set) -/
theorem metX1_isFull (l : Launch) (dC : Nat → ClassId) (dI : Nat → Nat → Nat) (ha : Nat → Nat) (da : Nat → ClassId) (sz : Nat) (b : Nat → Nat) (n : Nat) (fb : Nat → Int32) (hn : n ≤ 40) (hbk : is_Bk fb n b) (S : Nat) (hS8 : S < 256) : Met l yX1_isFull (ws_ yX1_isFull cX1_isFull 4 (some .boolean)) ({ frames := 1, cells := 0, slots := 0, locals := 24 }) (is_P dC dI (is_MT da) (is_MW ha da (nI n, fb)) sz [.ref (ha 0), .int (nI S)]) (va_Qi (fun (r : Int32) (u' : is_UM) => ((r = nI 1 ∧ is_fu b n S) ∨ (r = nI 0 ∧ ¬ is_fu b n S)) ∧ u' = (nI n, fb)) (is_B dC dI (is_MT da) (is_MW ha da) (va_A (is_MW ha da (nI n, fb)) sz)) (va_A (is_MW ha da (nI n, fb)) sz)) 0 0 (va_A (is_MW ha da (nI n, fb)) sz) := by
  refine Met.ofW (cc := cX1_isFull) (maxL := 4) (ret := (some .boolean)) (by decide) rfl ?_
  intro p e s m args below meth c s₁ B hml hv
  obtain ⟨rfl, hsz, hP, hK, hD0⟩ := hv
  have hx := B.exec
  have hb := B.bytes
  have hr := B.returns
  have hts := atoms_spec (ws := (ws_ yX1_isFull cX1_isFull 4 (some .boolean))) B.pre
  have hts : ∀ w ∈ lw_all, w.before _ s = true := fun w h => hts w (List.mem_cons_of_mem _ h)
  have hown : s.vm.findClass RX1 = some m.cls := findClass_of_methodNamed B.named
  have hlocks := B.notSynchronized
  subst hsz
  have hD := hD0.self (sz := s.heap.size)
  generalize hAe : va_A (is_MW ha da (nI n, fb)) s.heap.size = A at hD ⊢
  have hA : ∀ q : Nat, s.heap.size ≤ q → A q := fun q h => by rw [← hAe]; exact Or.inr h
  have hS : va_S A s.heap s.heap [] := va_S.rf
  have hl := lv_entry ([.ref (ha 0), .int (nI S)]) (n := 4) (Nat.le_of_ble_eq_true rfl)
  rw [lg_entry_eq]
  generalize (lg_sl ([.ref (ha 0), .int (nI S)]) ++ List.replicate (4 - (lg_sl ([.ref (ha 0), .int (nI S)])).length) Slot.unset).toArray = ls at hl ⊢
  have hl : lv_has ls 4 [(0, .ref (ha 0)), (1, .int (nI S))] := hl
  refine lv_aload_n hx hb dX1_isFull_0 rfl (lv_at hl 0 rfl) ?_
  refine lv_iload_n hx hb dX1_isFull_1 rfl (lv_at hl 1 rfl) ?_
  refine is_cVi (Wd := is_MW ha da) (u := (nI n, fb)) (As := [.int (nI S)]) (rest := []) (b := ha 0) ⟨hx, hb, hml, hown, hts⟩ (metX1_support l dC dI ha da _ b n fb hn hbk S (by have := hS8; omega)) (cwV 1 hts (lw_V q154 q143 q144 q12 q145) rfl rfl rfl (by decide +kernel) ⟨Nat.le_of_ble_eq_true rfl, Nat.le_of_ble_eq_true rfl⟩) (va_recv hK hP (ci := 1) (q0 := 0) rfl rfl) hK hP hD hS hA rfl hl.1 rfl (Nat.le_of_ble_eq_true rfl) dX1_isFull_2 ⟨Nat.zero_le _, Nat.zero_le _⟩ (fun r u' H locs hw hP hD hS => ?_)
  obtain ⟨rfl, rfl⟩ := hw
  have hP : va_P (dC, dI) is_cl (is_MW ha da (nI n, fb)) H := hP
  have hD : va_D A (is_MW ha da (nI n, fb)) := hD
  refine is_ti (nI (is_sup b n S)) (by rw [Nat.mod_eq_of_lt (hS8)]) ?_
  refine lv_istore_n (lv' := [(2, .int (nI (is_sup b n S))), (0, .ref (ha 0)), (1, .int (nI S))]) hx hb dX1_isFull_5 rfl hl (by decide) rfl (fun ls hl => ?_)
  refine lv_iconst (v := nI 0) hx hb dX1_isFull_6 (by decide) ?_
  refine lv_istore_n (lv' := [(3, .int (nI 0)), (2, .int (nI (is_sup b n S))), (0, .ref (ha 0)), (1, .int (nI S))]) hx hb dX1_isFull_7 rfl hl (by decide) rfl (fun ls hl => ?_)
  have lo : ∀ (j : Nat) (t0 : Nat), 256 < t0 + j → t0 ≤ 256 → (∀ t, t < t0 → t ≠ S → t &&& S = S → is_sup b n t ≠ is_sup b n S) → ∀ (H : Heap) (locs : List Loc) (ls : Array Slot), va_P (dC, dI) is_cl (is_MW ha da (nI n, fb)) H → va_D A (is_MW ha da (nI n, fb)) → va_S A s.heap H locs → lv_has ls 4 [(3, .int (nI t0)), (2, .int (nI (is_sup b n S))), (0, .ref (ha 0)), (1, .int (nI S))] → W p l e (headSpec (ws_ yX1_isFull cX1_isFull 4 (some .boolean)) ({ frames := 1, cells := 0, slots := 0, locals := 24 })).room s m ([.ref (ha 0), .int (nI S)] : List Value).toArray below meth c H locs 0 0 (MQ below (va_Qi (fun (r : Int32) (u' : is_UM) => ((r = nI 1 ∧ is_fu b n S) ∨ (r = nI 0 ∧ ¬ is_fu b n S)) ∧ u' = (nI n, fb)) (is_B dC dI (is_MT da) (is_MW ha da) A) A) ([.ref (ha 0), .int (nI S)] : List Value).toArray s 0 0 A) (F0 m 8 ls []) := by
    intro j
    induction j with
    | zero => intro t0 h1 h2 h3; omega
    | succ j ihlo =>
      intro t0 h1 h2 h3 H locs ls hP hD hS hl
      have hle : t0 &&& S ≤ S := Nat.and_le_right
      have hn1 := is_sup_le b n S
      have hn2 := is_sup_le b n t0
      refine lv_iload_n hx hb dX1_isFull_8 rfl (lv_at hl 0 rfl) ?_
      refine lv_sipush (v := nI 256) hx hb dX1_isFull_9 (by decide) ?_
      refine is_icmp_ge (a := t0) (b := 256) (tgt := 44) hx hb (by omega) (by omega) dX1_isFull_12 (by decide) (fun ht => ?_) (fun ht => ?_)
      · refine lv_iconst (v := nI 1) hx hb dX1_isFull_44 (by decide) ?_
        exact W.zret (v := nI 1) hx hb hr rfl (fun t ht hW => ⟨⟨nI 1, (nI n, fb), rfl, ⟨Or.inl ⟨rfl, fun t q => h3 t (by omega)⟩, rfl⟩, by rw [ht]; exact hP, va_K.moved hW.alike hK, hD⟩, hS.F ht⟩) hS.2.2 dX1_isFull_45
      · refine lv_iload_n hx hb dX1_isFull_15 rfl (lv_at hl 0 rfl) ?_
        refine lv_iload_n hx hb dX1_isFull_16 rfl (lv_at hl 3 rfl) ?_
        refine is_icmp_eq (a := t0) (b := S) (tgt := 38) hx hb (by omega) (by omega) dX1_isFull_17 (by decide) (fun c1 => ?_) (fun c1 => ?_)
        · refine lv_iinc (v := nI (t0 + 1)) (lv' := [(3, .int (nI (t0 + 1))), (2, .int (nI (is_sup b n S))), (0, .ref (ha 0)), (1, .int (nI S))]) hx hb dX1_isFull_38 hl (k := 0) rfl (is_inc t0) (by decide) rfl (fun ls hl => ?_)
          refine lv_goto (tgt := 8) hx hb dX1_isFull_41 (by decide) ?_
          exact ihlo (t0 + 1) (by omega) (by omega) (fun t q1 q2 q3 => by
            rcases Nat.lt_or_ge t t0 with z | z
            · exact h3 t z q2 q3
            · have e : t = t0 := by omega
              subst e
              exact absurd c1 q2) _ _ _ hP hD hS (lv_sub hl [0, 1, 2, 3] rfl)
        · refine lv_iload_n hx hb dX1_isFull_20 rfl (lv_at hl 0 rfl) ?_
          refine lv_iload_n hx hb dX1_isFull_21 rfl (lv_at hl 3 rfl) ?_
          refine lv_iand hx hb dX1_isFull_22 ?_
          refine is_ti (nI (t0 &&& S)) (is_and _ _) ?_
          refine lv_iload_n hx hb dX1_isFull_23 rfl (lv_at hl 3 rfl) ?_
          refine is_icmp_ne (a := (t0 &&& S)) (b := S) (tgt := 38) hx hb (by omega) (by omega) dX1_isFull_24 (by decide) (fun c2 => ?_) (fun c2 => ?_)
          · refine lv_iinc (v := nI (t0 + 1)) (lv' := [(3, .int (nI (t0 + 1))), (2, .int (nI (is_sup b n S))), (0, .ref (ha 0)), (1, .int (nI S))]) hx hb dX1_isFull_38 hl (k := 0) rfl (is_inc t0) (by decide) rfl (fun ls hl => ?_)
            refine lv_goto (tgt := 8) hx hb dX1_isFull_41 (by decide) ?_
            exact ihlo (t0 + 1) (by omega) (by omega) (fun t q1 q2 q3 => by
              rcases Nat.lt_or_ge t t0 with z | z
              · exact h3 t z q2 q3
              · have e : t = t0 := by omega
                subst e
                exact absurd q3 c2) _ _ _ hP hD hS (lv_sub hl [0, 1, 2, 3] rfl)
          · refine lv_aload_n hx hb dX1_isFull_27 rfl (lv_at hl 2 rfl) ?_
            refine lv_iload_n hx hb dX1_isFull_28 rfl (lv_at hl 0 rfl) ?_
            refine is_cVi (Wd := is_MW ha da) (u := (nI n, fb)) (As := [.int (nI t0)]) (rest := []) (b := ha 0) ⟨hx, hb, hml, hown, hts⟩ (metX1_support l dC dI ha da _ b n fb hn hbk t0 (by have := (show t0 < 256 by omega); omega)) (cwV 1 hts (lw_V q154 q143 q144 q12 q145) rfl rfl rfl (by decide +kernel) ⟨Nat.le_of_ble_eq_true rfl, Nat.le_of_ble_eq_true rfl⟩) (va_recv hK hP (ci := 1) (q0 := 0) rfl rfl) hK hP hD hS hA rfl hl.1 rfl (Nat.le_of_ble_eq_true rfl) dX1_isFull_29 ⟨Nat.zero_le _, Nat.zero_le _⟩ (fun r u' H locs hw hP hD hS => ?_)
            obtain ⟨rfl, rfl⟩ := hw
            have hP : va_P (dC, dI) is_cl (is_MW ha da (nI n, fb)) H := hP
            have hD : va_D A (is_MW ha da (nI n, fb)) := hD
            refine is_ti (nI (is_sup b n t0)) (by rw [Nat.mod_eq_of_lt ((show t0 < 256 by omega))]) ?_
            refine lv_iload_n hx hb dX1_isFull_32 rfl (lv_at hl 1 rfl) ?_
            refine is_icmp_ne (a := (is_sup b n t0)) (b := (is_sup b n S)) (tgt := 38) hx hb (by omega) (by omega) dX1_isFull_33 (by decide) (fun c3 => ?_) (fun c3 => ?_)
            · refine lv_iinc (v := nI (t0 + 1)) (lv' := [(3, .int (nI (t0 + 1))), (2, .int (nI (is_sup b n S))), (0, .ref (ha 0)), (1, .int (nI S))]) hx hb dX1_isFull_38 hl (k := 0) rfl (is_inc t0) (by decide) rfl (fun ls hl => ?_)
              refine lv_goto (tgt := 8) hx hb dX1_isFull_41 (by decide) ?_
              exact ihlo (t0 + 1) (by omega) (by omega) (fun t q1 q2 q3 => by
                rcases Nat.lt_or_ge t t0 with z | z
                · exact h3 t z q2 q3
                · have e : t = t0 := by omega
                  subst e
                  exact c3) _ _ _ hP hD hS (lv_sub hl [0, 1, 2, 3] rfl)
            · refine lv_iconst (v := nI 0) hx hb dX1_isFull_36 (by decide) ?_
              exact W.zret (v := nI 0) hx hb hr rfl (fun t ht hW => ⟨⟨nI 0, (nI n, fb), rfl, ⟨Or.inr ⟨rfl, fun q => q t0 (by omega) c1 c2 c3⟩, rfl⟩, by rw [ht]; exact hP, va_K.moved hW.alike hK, hD⟩, hS.F ht⟩) hS.2.2 dX1_isFull_37
  exact lo 257 0 (by omega) (by omega) (fun t q => absurd q (Nat.not_lt_zero t)) _ _ _ hP hD hS (lv_sub hl [0, 1, 2, 3] rfl)
set_option maxHeartbeats 4000000 in
set_option maxRecDepth 100000 in
/-- full(m) -/
theorem metX1_full (l : Launch) (dC : Nat → ClassId) (dI : Nat → Nat → Nat) (ha : Nat → Nat) (da : Nat → ClassId) (sz : Nat) (b : Nat → Nat) (n : Nat) (fb : Nat → Int32) (hn : n ≤ 40) (hbk : is_Bk fb n b) (mm : Int32) : Met l yX1_full (ws_ yX1_full cX1_full 4 (some .int)) ({ frames := 2, cells := 0, slots := 0, locals := 47 }) (is_P dC dI (is_MT da) (is_MW ha da (nI n, fb)) sz [.ref (ha 0), .int mm]) (va_Qi (fun (r : Int32) (u' : is_UM) => r = is_fld (is_of b n mm) (is_fF b n) 256 ∧ u' = (nI n, fb)) (is_B dC dI (is_MT da) (is_MW ha da) (va_A (is_MW ha da (nI n, fb)) sz)) (va_A (is_MW ha da (nI n, fb)) sz)) 0 0 (va_A (is_MW ha da (nI n, fb)) sz) := by
  refine Met.ofW (cc := cX1_full) (maxL := 4) (ret := (some .int)) (by decide) rfl ?_
  intro p e s m args below meth c s₁ B hml hv
  obtain ⟨rfl, hsz, hP, hK, hD0⟩ := hv
  have hx := B.exec
  have hb := B.bytes
  have hr := B.returns
  have hts := atoms_spec (ws := (ws_ yX1_full cX1_full 4 (some .int))) B.pre
  have hts : ∀ w ∈ lw_all, w.before _ s = true := fun w h => hts w (List.mem_cons_of_mem _ h)
  have hown : s.vm.findClass RX1 = some m.cls := findClass_of_methodNamed B.named
  have hlocks := B.notSynchronized
  subst hsz
  have hD := hD0.self (sz := s.heap.size)
  generalize hAe : va_A (is_MW ha da (nI n, fb)) s.heap.size = A at hD ⊢
  have hA : ∀ q : Nat, s.heap.size ≤ q → A q := fun q h => by rw [← hAe]; exact Or.inr h
  have hS : va_S A s.heap s.heap [] := va_S.rf
  have hl := lv_entry ([.ref (ha 0), .int mm]) (n := 4) (Nat.le_of_ble_eq_true rfl)
  rw [lg_entry_eq]
  generalize (lg_sl ([.ref (ha 0), .int mm]) ++ List.replicate (4 - (lg_sl ([.ref (ha 0), .int mm])).length) Slot.unset).toArray = ls at hl ⊢
  have hl : lv_has ls 4 [(0, .ref (ha 0)), (1, .int mm)] := hl
  refine lv_iconst (v := nI 0) hx hb dX1_full_0 (by decide) ?_
  refine lv_istore_n (lv' := [(2, .int (nI 0)), (0, .ref (ha 0)), (1, .int mm)]) hx hb dX1_full_1 rfl hl (by decide) rfl (fun ls hl => ?_)
  refine lv_iconst (v := nI 1) hx hb dX1_full_2 (by decide) ?_
  refine lv_istore_n (lv' := [(3, .int (nI 1)), (2, .int (nI 0)), (0, .ref (ha 0)), (1, .int mm)]) hx hb dX1_full_3 rfl hl (by decide) rfl (fun ls hl => ?_)
  have lo : ∀ (j : Nat) (s0 : Nat) (acc : Int32), 256 < s0 + j → s0 ≤ 256 → acc = is_fld (is_of b n mm) (is_fF b n) s0 → ∀ (H : Heap) (locs : List Loc) (ls : Array Slot), va_P (dC, dI) is_cl (is_MW ha da (nI n, fb)) H → va_D A (is_MW ha da (nI n, fb)) → va_S A s.heap H locs → lv_has ls 4 [(3, .int (nI s0)), (2, .int acc), (0, .ref (ha 0)), (1, .int mm)] → W p l e (headSpec (ws_ yX1_full cX1_full 4 (some .int)) ({ frames := 2, cells := 0, slots := 0, locals := 47 })).room s m ([.ref (ha 0), .int mm] : List Value).toArray below meth c H locs 0 0 (MQ below (va_Qi (fun (r : Int32) (u' : is_UM) => r = is_fld (is_of b n mm) (is_fF b n) 256 ∧ u' = (nI n, fb)) (is_B dC dI (is_MT da) (is_MW ha da) A) A) ([.ref (ha 0), .int mm] : List Value).toArray s 0 0 A) (F0 m 4 ls []) := by
    intro j
    induction j with
    | zero => intro s0 acc h1 h2 h3; omega
    | succ j ihlo =>
      intro s0 acc h1 h2 h3 H locs ls hP hD hS hl
      refine lv_iload_n hx hb dX1_full_4 rfl (lv_at hl 0 rfl) ?_
      refine lv_sipush (v := nI 256) hx hb dX1_full_5 (by decide) ?_
      refine is_icmp_ge (a := s0) (b := 256) (tgt := 37) hx hb (by omega) (by omega) dX1_full_8 (by decide) (fun hs => ?_) (fun hs => ?_)
      · refine lv_iload_n hx hb dX1_full_37 rfl (lv_at hl 1 rfl) ?_
        exact W.iret (v := acc) hx hb hr (fun t ht hW => ⟨⟨acc, (nI n, fb), rfl, ⟨by rw [h3, show s0 = 256 by omega], rfl⟩, by rw [ht]; exact hP, va_K.moved hW.alike hK, hD⟩, hS.F ht⟩) hS.2.2 dX1_full_38
      · refine lv_aload_n hx hb dX1_full_11 rfl (lv_at hl 2 rfl) ?_
        refine lv_iload_n hx hb dX1_full_12 rfl (lv_at hl 0 rfl) ?_
        refine lv_iload_n hx hb dX1_full_13 rfl (lv_at hl 3 rfl) ?_
        refine is_cVi (Wd := is_MW ha da) (u := (nI n, fb)) (As := [.int (nI s0), .int mm]) (rest := []) (b := ha 0) ⟨hx, hb, hml, hown, hts⟩ (metX1_isOften l dC dI ha da _ b n fb hn hbk s0 mm (by omega)) (cwV 2 hts (lw_V q150 q152 qs7 q12 q153) rfl rfl rfl (by decide +kernel) ⟨Nat.le_of_ble_eq_true rfl, Nat.le_of_ble_eq_true rfl⟩) (va_recv hK hP (ci := 1) (q0 := 0) rfl rfl) hK hP hD hS hA rfl hl.1 rfl (Nat.le_of_ble_eq_true rfl) dX1_full_14 ⟨Nat.zero_le _, Nat.zero_le _⟩ (fun r u' H locs hw hP hD hS => ?_)
        obtain ⟨rfl, rfl⟩ := hw
        have hP : va_P (dC, dI) is_cl (is_MW ha da (nI n, fb)) H := hP
        have hD : va_D A (is_MW ha da (nI n, fb)) := hD
        cases hof : is_of b n mm s0
        · refine is_ti (nI 0) (rfl) ?_
          refine is_if_eq (a := 0) (tgt := 31) hx hb (by omega) dX1_full_17 (by decide) (fun hz => ?_) (fun hz => ?_)
          · refine lv_iinc (v := nI (s0 + 1)) (lv' := [(3, .int (nI (s0 + 1))), (2, .int acc), (0, .ref (ha 0)), (1, .int mm)]) hx hb dX1_full_31 hl (k := 0) rfl (is_inc s0) (by decide) rfl (fun ls hl => ?_)
            refine lv_goto (tgt := 4) hx hb dX1_full_34 (by decide) ?_
            exact ihlo (s0 + 1) acc (by omega) (by omega) (by rw [is_fld_f hof, h3]) _ _ _ hP hD hS (lv_sub hl [0, 1, 2, 3] rfl)
          · exact absurd rfl hz
        · refine is_ti (nI 1) (rfl) ?_
          refine is_if_eq (a := 1) (tgt := 31) hx hb (by omega) dX1_full_17 (by decide) (fun hz => ?_) (fun hz => ?_)
          · exact absurd hz (by decide)
          · refine lv_aload_n hx hb dX1_full_20 rfl (lv_at hl 2 rfl) ?_
            refine lv_iload_n hx hb dX1_full_21 rfl (lv_at hl 0 rfl) ?_
            refine is_cVi (Wd := is_MW ha da) (u := (nI n, fb)) (As := [.int (nI s0)]) (rest := []) (b := ha 0) ⟨hx, hb, hml, hown, hts⟩ (metX1_isFull l dC dI ha da _ b n fb hn hbk s0 (by omega)) (cwV 1 hts (lw_V q159 q161 qs8 q12 q162) rfl rfl rfl (by decide +kernel) ⟨Nat.le_of_ble_eq_true rfl, Nat.le_of_ble_eq_true rfl⟩) (va_recv hK hP (ci := 1) (q0 := 0) rfl rfl) hK hP hD hS hA rfl hl.1 rfl (Nat.le_of_ble_eq_true rfl) dX1_full_22 ⟨Nat.zero_le _, Nat.zero_le _⟩ (fun r u' H locs hw hP hD hS => ?_)
            obtain ⟨hfu, rfl⟩ := hw
            have hP : va_P (dC, dI) is_cl (is_MW ha da (nI n, fb)) H := hP
            have hD : va_D A (is_MW ha da (nI n, fb)) := hD
            rcases hfu with ⟨rfl, hfu⟩ | ⟨rfl, hfu⟩
            · refine is_if_eq (a := 1) (tgt := 31) hx hb (by omega) dX1_full_25 (by decide) (fun hy => ?_) (fun hy => ?_)
              · exact absurd hy (by decide)
              · refine lv_iinc (v := acc + 1) (lv' := [(2, .int (acc + 1)), (3, .int (nI s0)), (0, .ref (ha 0)), (1, .int mm)]) hx hb dX1_full_28 hl (k := 1) rfl (rfl) (by decide) rfl (fun ls hl => ?_)
                refine lv_iinc (v := nI (s0 + 1)) (lv' := [(3, .int (nI (s0 + 1))), (2, .int (acc + 1)), (0, .ref (ha 0)), (1, .int mm)]) hx hb dX1_full_31 hl (k := 1) rfl (is_inc s0) (by decide) rfl (fun ls hl => ?_)
                refine lv_goto (tgt := 4) hx hb dX1_full_34 (by decide) ?_
                exact ihlo (s0 + 1) _ (by omega) (by omega) (by rw [is_fld_t hof, h3]; unfold is_fF; rw [if_pos ((is_full_law b hn (by omega)).mp hfu)]; rfl) _ _ _ hP hD hS (lv_sub hl [0, 1, 2, 3] rfl)
            · refine is_if_eq (a := 0) (tgt := 31) hx hb (by omega) dX1_full_25 (by decide) (fun hy => ?_) (fun hy => ?_)
              · refine lv_iinc (v := nI (s0 + 1)) (lv' := [(3, .int (nI (s0 + 1))), (2, .int acc), (0, .ref (ha 0)), (1, .int mm)]) hx hb dX1_full_31 hl (k := 0) rfl (is_inc s0) (by decide) rfl (fun ls hl => ?_)
                refine lv_goto (tgt := 4) hx hb dX1_full_34 (by decide) ?_
                exact ihlo (s0 + 1) acc (by omega) (by omega) (by rw [is_fld_t hof, h3]; unfold is_fF; rw [if_neg (fun z => hfu ((is_full_law b hn (by omega)).mpr z)), is_add0]) _ _ _ hP hD hS (lv_sub hl [0, 1, 2, 3] rfl)
              · exact absurd rfl hy
  exact lo 256 1 _ (by omega) (by omega) is_fld_1 _ _ _ hP hD hS (lv_sub hl [0, 1, 2, 3] rfl)
end
section
/-! CONTRACTS of ItemSetsModel, 2: isLargest, largest, goods, size, next, closure, rules -/
set_option maxRecDepth 100000
theorem is_shrN : ∀ g, g < 8 → ((nI g &&& 31).toBitVec.smod 32).toNat = g := by decide +kernel
theorem is_sc_t {b : Nat → Nat} {n s t x : Nat} (hx : x = is_sc b n s t) (h1 : t &&& s = s) (h2 : is_sup b n t = is_sup b n s) (h3 : t &&& x = x) : t = is_sc b n s (t + 1) := by
  subst hx
  exact (if_pos ⟨h1, h2, h3⟩).symm
theorem is_sc_f {b : Nat → Nat} {n s t x : Nat} (hx : x = is_sc b n s t) (h : ¬ (t &&& s = s ∧ is_sup b n t = is_sup b n s ∧ t &&& x = x)) : x = is_sc b n s (t + 1) := by
  subst hx
  exact (if_neg h).symm
theorem is_acc1 (a : Int32) (k : Nat) : a + nI k + 1 = a + nI (k + if true = true then 1 else 0) := by
  rw [if_pos rfl, Int32.add_assoc, nI_1]
set_option maxHeartbeats 4000000 in
set_option maxRecDepth 100000 in
/-- isLargest(set, m) -/
theorem metX1_isLargest (l : Launch) (dC : Nat → ClassId) (dI : Nat → Nat → Nat) (ha : Nat → Nat) (da : Nat → ClassId) (sz : Nat) (b : Nat → Nat) (n : Nat) (fb : Nat → Int32) (hn : n ≤ 40) (hbk : is_Bk fb n b) (S : Nat) (mm : Int32) (hS8 : S < 256) : Met l yX1_isLargest (ws_ yX1_isLargest cX1_isLargest 4 (some .boolean)) ({ frames := 2, cells := 0, slots := 0, locals := 46 }) (is_P dC dI (is_MT da) (is_MW ha da (nI n, fb)) sz [.ref (ha 0), .int (nI S), .int mm]) (va_Qi (fun (r : Int32) (u' : is_UM) => ((r = nI 1 ∧ is_la b n mm S) ∨ (r = nI 0 ∧ ¬ is_la b n mm S)) ∧ u' = (nI n, fb)) (is_B dC dI (is_MT da) (is_MW ha da) (va_A (is_MW ha da (nI n, fb)) sz)) (va_A (is_MW ha da (nI n, fb)) sz)) 0 0 (va_A (is_MW ha da (nI n, fb)) sz) := by
  refine Met.ofW (cc := cX1_isLargest) (maxL := 4) (ret := (some .boolean)) (by decide) rfl ?_
  intro p e s m args below meth c s₁ B hml hv
  obtain ⟨rfl, hsz, hP, hK, hD0⟩ := hv
  have hx := B.exec
  have hb := B.bytes
  have hr := B.returns
  have hts := atoms_spec (ws := (ws_ yX1_isLargest cX1_isLargest 4 (some .boolean))) B.pre
  have hts : ∀ w ∈ lw_all, w.before _ s = true := fun w h => hts w (List.mem_cons_of_mem _ h)
  have hown : s.vm.findClass RX1 = some m.cls := findClass_of_methodNamed B.named
  have hlocks := B.notSynchronized
  subst hsz
  have hD := hD0.self (sz := s.heap.size)
  generalize hAe : va_A (is_MW ha da (nI n, fb)) s.heap.size = A at hD ⊢
  have hA : ∀ q : Nat, s.heap.size ≤ q → A q := fun q h => by rw [← hAe]; exact Or.inr h
  have hS : va_S A s.heap s.heap [] := va_S.rf
  have hl := lv_entry ([.ref (ha 0), .int (nI S), .int mm]) (n := 4) (Nat.le_of_ble_eq_true rfl)
  rw [lg_entry_eq]
  generalize (lg_sl ([.ref (ha 0), .int (nI S), .int mm]) ++ List.replicate (4 - (lg_sl ([.ref (ha 0), .int (nI S), .int mm])).length) Slot.unset).toArray = ls at hl ⊢
  have hl : lv_has ls 4 [(0, .ref (ha 0)), (1, .int (nI S)), (2, .int mm)] := hl
  refine lv_iconst (v := nI 0) hx hb dX1_isLargest_0 (by decide) ?_
  refine lv_istore_n (lv' := [(3, .int (nI 0)), (0, .ref (ha 0)), (1, .int (nI S)), (2, .int mm)]) hx hb dX1_isLargest_1 rfl hl (by decide) rfl (fun ls hl => ?_)
  have lo : ∀ (j : Nat) (t0 : Nat), 256 < t0 + j → t0 ≤ 256 → (∀ t, t < t0 → t ≠ S → t &&& S = S → is_of b n mm t = false) → ∀ (H : Heap) (locs : List Loc) (ls : Array Slot), va_P (dC, dI) is_cl (is_MW ha da (nI n, fb)) H → va_D A (is_MW ha da (nI n, fb)) → va_S A s.heap H locs → lv_has ls 4 [(3, .int (nI t0)), (0, .ref (ha 0)), (1, .int (nI S)), (2, .int mm)] → W p l e (headSpec (ws_ yX1_isLargest cX1_isLargest 4 (some .boolean)) ({ frames := 2, cells := 0, slots := 0, locals := 46 })).room s m ([.ref (ha 0), .int (nI S), .int mm] : List Value).toArray below meth c H locs 0 0 (MQ below (va_Qi (fun (r : Int32) (u' : is_UM) => ((r = nI 1 ∧ is_la b n mm S) ∨ (r = nI 0 ∧ ¬ is_la b n mm S)) ∧ u' = (nI n, fb)) (is_B dC dI (is_MT da) (is_MW ha da) A) A) ([.ref (ha 0), .int (nI S), .int mm] : List Value).toArray s 0 0 A) (F0 m 2 ls []) := by
    intro j
    induction j with
    | zero => intro t0 h1 h2 h3; omega
    | succ j ihlo =>
      intro t0 h1 h2 h3 H locs ls hP hD hS hl
      have hle : t0 &&& S ≤ S := Nat.and_le_right
      refine lv_iload_n hx hb dX1_isLargest_2 rfl (lv_at hl 0 rfl) ?_
      refine lv_sipush (v := nI 256) hx hb dX1_isLargest_3 (by decide) ?_
      refine is_icmp_ge (a := t0) (b := 256) (tgt := 38) hx hb (by omega) (by omega) dX1_isLargest_6 (by decide) (fun ht => ?_) (fun ht => ?_)
      · refine lv_iconst (v := nI 1) hx hb dX1_isLargest_38 (by decide) ?_
        exact W.zret (v := nI 1) hx hb hr rfl (fun t ht hW => ⟨⟨nI 1, (nI n, fb), rfl, ⟨Or.inl ⟨rfl, fun t q => h3 t (by omega)⟩, rfl⟩, by rw [ht]; exact hP, va_K.moved hW.alike hK, hD⟩, hS.F ht⟩) hS.2.2 dX1_isLargest_39
      · refine lv_iload_n hx hb dX1_isLargest_9 rfl (lv_at hl 0 rfl) ?_
        refine lv_iload_n hx hb dX1_isLargest_10 rfl (lv_at hl 2 rfl) ?_
        refine is_icmp_eq (a := t0) (b := S) (tgt := 32) hx hb (by omega) (by omega) dX1_isLargest_11 (by decide) (fun c1 => ?_) (fun c1 => ?_)
        · refine lv_iinc (v := nI (t0 + 1)) (lv' := [(3, .int (nI (t0 + 1))), (0, .ref (ha 0)), (1, .int (nI S)), (2, .int mm)]) hx hb dX1_isLargest_32 hl (k := 0) rfl (is_inc t0) (by decide) rfl (fun ls hl => ?_)
          refine lv_goto (tgt := 2) hx hb dX1_isLargest_35 (by decide) ?_
          exact ihlo (t0 + 1) (by omega) (by omega) (fun t q1 q2 q3 => by
            rcases Nat.lt_or_ge t t0 with z | z
            · exact h3 t z q2 q3
            · have e : t = t0 := by omega
              subst e
              exact absurd c1 q2) _ _ _ hP hD hS (lv_sub hl [0, 1, 2, 3] rfl)
        · refine lv_iload_n hx hb dX1_isLargest_14 rfl (lv_at hl 0 rfl) ?_
          refine lv_iload_n hx hb dX1_isLargest_15 rfl (lv_at hl 2 rfl) ?_
          refine lv_iand hx hb dX1_isLargest_16 ?_
          refine is_ti (nI (t0 &&& S)) (is_and _ _) ?_
          refine lv_iload_n hx hb dX1_isLargest_17 rfl (lv_at hl 2 rfl) ?_
          refine is_icmp_ne (a := (t0 &&& S)) (b := S) (tgt := 32) hx hb (by omega) (by omega) dX1_isLargest_18 (by decide) (fun c2 => ?_) (fun c2 => ?_)
          · refine lv_iinc (v := nI (t0 + 1)) (lv' := [(3, .int (nI (t0 + 1))), (0, .ref (ha 0)), (1, .int (nI S)), (2, .int mm)]) hx hb dX1_isLargest_32 hl (k := 0) rfl (is_inc t0) (by decide) rfl (fun ls hl => ?_)
            refine lv_goto (tgt := 2) hx hb dX1_isLargest_35 (by decide) ?_
            exact ihlo (t0 + 1) (by omega) (by omega) (fun t q1 q2 q3 => by
              rcases Nat.lt_or_ge t t0 with z | z
              · exact h3 t z q2 q3
              · have e : t = t0 := by omega
                subst e
                exact absurd q3 c2) _ _ _ hP hD hS (lv_sub hl [0, 1, 2, 3] rfl)
          · refine lv_aload_n hx hb dX1_isLargest_21 rfl (lv_at hl 1 rfl) ?_
            refine lv_iload_n hx hb dX1_isLargest_22 rfl (lv_at hl 0 rfl) ?_
            refine lv_iload_n hx hb dX1_isLargest_23 rfl (lv_at hl 3 rfl) ?_
            refine is_cVi (Wd := is_MW ha da) (u := (nI n, fb)) (As := [.int (nI t0), .int mm]) (rest := []) (b := ha 0) ⟨hx, hb, hml, hown, hts⟩ (metX1_isOften l dC dI ha da _ b n fb hn hbk t0 mm (by omega)) (cwV 2 hts (lw_V q150 q152 qs7 q12 q153) rfl rfl rfl (by decide +kernel) ⟨Nat.le_of_ble_eq_true rfl, Nat.le_of_ble_eq_true rfl⟩) (va_recv hK hP (ci := 1) (q0 := 0) rfl rfl) hK hP hD hS hA rfl hl.1 rfl (Nat.le_of_ble_eq_true rfl) dX1_isLargest_24 ⟨Nat.zero_le _, Nat.zero_le _⟩ (fun r u' H locs hw hP hD hS => ?_)
            obtain ⟨rfl, rfl⟩ := hw
            have hP : va_P (dC, dI) is_cl (is_MW ha da (nI n, fb)) H := hP
            have hD : va_D A (is_MW ha da (nI n, fb)) := hD
            cases hof : is_of b n mm t0
            · refine is_ti (nI 0) (rfl) ?_
              refine is_if_eq (a := 0) (tgt := 32) hx hb (by omega) dX1_isLargest_27 (by decide) (fun hz => ?_) (fun hz => ?_)
              · refine lv_iinc (v := nI (t0 + 1)) (lv' := [(3, .int (nI (t0 + 1))), (0, .ref (ha 0)), (1, .int (nI S)), (2, .int mm)]) hx hb dX1_isLargest_32 hl (k := 0) rfl (is_inc t0) (by decide) rfl (fun ls hl => ?_)
                refine lv_goto (tgt := 2) hx hb dX1_isLargest_35 (by decide) ?_
                exact ihlo (t0 + 1) (by omega) (by omega) (fun t q1 q2 q3 => by
                  rcases Nat.lt_or_ge t t0 with z | z
                  · exact h3 t z q2 q3
                  · have e : t = t0 := by omega
                    subst e
                    exact hof) _ _ _ hP hD hS (lv_sub hl [0, 1, 2, 3] rfl)
              · exact absurd rfl hz
            · refine is_ti (nI 1) (rfl) ?_
              refine is_if_eq (a := 1) (tgt := 32) hx hb (by omega) dX1_isLargest_27 (by decide) (fun hz => ?_) (fun hz => ?_)
              · exact absurd hz (by decide)
              · refine lv_iconst (v := nI 0) hx hb dX1_isLargest_30 (by decide) ?_
                exact W.zret (v := nI 0) hx hb hr rfl (fun t ht hW => ⟨⟨nI 0, (nI n, fb), rfl, ⟨Or.inr ⟨rfl, fun q => by have q2 := q t0 (by omega) c1 c2; rw [hof] at q2; cases q2⟩, rfl⟩, by rw [ht]; exact hP, va_K.moved hW.alike hK, hD⟩, hS.F ht⟩) hS.2.2 dX1_isLargest_31
  exact lo 257 0 (by omega) (by omega) (fun t q => absurd q (Nat.not_lt_zero t)) _ _ _ hP hD hS (lv_sub hl [0, 1, 2, 3] rfl)
set_option maxHeartbeats 4000000 in
set_option maxRecDepth 100000 in
/-- largest(m) -/
theorem metX1_largest (l : Launch) (dC : Nat → ClassId) (dI : Nat → Nat → Nat) (ha : Nat → Nat) (da : Nat → ClassId) (sz : Nat) (b : Nat → Nat) (n : Nat) (fb : Nat → Int32) (hn : n ≤ 40) (hbk : is_Bk fb n b) (mm : Int32) : Met l yX1_largest (ws_ yX1_largest cX1_largest 4 (some .int)) ({ frames := 3, cells := 0, slots := 0, locals := 69 }) (is_P dC dI (is_MT da) (is_MW ha da (nI n, fb)) sz [.ref (ha 0), .int mm]) (va_Qi (fun (r : Int32) (u' : is_UM) => r = is_fld (is_of b n mm) (is_fL b n mm) 256 ∧ u' = (nI n, fb)) (is_B dC dI (is_MT da) (is_MW ha da) (va_A (is_MW ha da (nI n, fb)) sz)) (va_A (is_MW ha da (nI n, fb)) sz)) 0 0 (va_A (is_MW ha da (nI n, fb)) sz) := by
  refine Met.ofW (cc := cX1_largest) (maxL := 4) (ret := (some .int)) (by decide) rfl ?_
  intro p e s m args below meth c s₁ B hml hv
  obtain ⟨rfl, hsz, hP, hK, hD0⟩ := hv
  have hx := B.exec
  have hb := B.bytes
  have hr := B.returns
  have hts := atoms_spec (ws := (ws_ yX1_largest cX1_largest 4 (some .int))) B.pre
  have hts : ∀ w ∈ lw_all, w.before _ s = true := fun w h => hts w (List.mem_cons_of_mem _ h)
  have hown : s.vm.findClass RX1 = some m.cls := findClass_of_methodNamed B.named
  have hlocks := B.notSynchronized
  subst hsz
  have hD := hD0.self (sz := s.heap.size)
  generalize hAe : va_A (is_MW ha da (nI n, fb)) s.heap.size = A at hD ⊢
  have hA : ∀ q : Nat, s.heap.size ≤ q → A q := fun q h => by rw [← hAe]; exact Or.inr h
  have hS : va_S A s.heap s.heap [] := va_S.rf
  have hl := lv_entry ([.ref (ha 0), .int mm]) (n := 4) (Nat.le_of_ble_eq_true rfl)
  rw [lg_entry_eq]
  generalize (lg_sl ([.ref (ha 0), .int mm]) ++ List.replicate (4 - (lg_sl ([.ref (ha 0), .int mm])).length) Slot.unset).toArray = ls at hl ⊢
  have hl : lv_has ls 4 [(0, .ref (ha 0)), (1, .int mm)] := hl
  refine lv_iconst (v := nI 0) hx hb dX1_largest_0 (by decide) ?_
  refine lv_istore_n (lv' := [(2, .int (nI 0)), (0, .ref (ha 0)), (1, .int mm)]) hx hb dX1_largest_1 rfl hl (by decide) rfl (fun ls hl => ?_)
  refine lv_iconst (v := nI 1) hx hb dX1_largest_2 (by decide) ?_
  refine lv_istore_n (lv' := [(3, .int (nI 1)), (2, .int (nI 0)), (0, .ref (ha 0)), (1, .int mm)]) hx hb dX1_largest_3 rfl hl (by decide) rfl (fun ls hl => ?_)
  have lo : ∀ (j : Nat) (s0 : Nat) (acc : Int32), 256 < s0 + j → s0 ≤ 256 → acc = is_fld (is_of b n mm) (is_fL b n mm) s0 → ∀ (H : Heap) (locs : List Loc) (ls : Array Slot), va_P (dC, dI) is_cl (is_MW ha da (nI n, fb)) H → va_D A (is_MW ha da (nI n, fb)) → va_S A s.heap H locs → lv_has ls 4 [(3, .int (nI s0)), (2, .int acc), (0, .ref (ha 0)), (1, .int mm)] → W p l e (headSpec (ws_ yX1_largest cX1_largest 4 (some .int)) ({ frames := 3, cells := 0, slots := 0, locals := 69 })).room s m ([.ref (ha 0), .int mm] : List Value).toArray below meth c H locs 0 0 (MQ below (va_Qi (fun (r : Int32) (u' : is_UM) => r = is_fld (is_of b n mm) (is_fL b n mm) 256 ∧ u' = (nI n, fb)) (is_B dC dI (is_MT da) (is_MW ha da) A) A) ([.ref (ha 0), .int mm] : List Value).toArray s 0 0 A) (F0 m 4 ls []) := by
    intro j
    induction j with
    | zero => intro s0 acc h1 h2 h3; omega
    | succ j ihlo =>
      intro s0 acc h1 h2 h3 H locs ls hP hD hS hl
      refine lv_iload_n hx hb dX1_largest_4 rfl (lv_at hl 0 rfl) ?_
      refine lv_sipush (v := nI 256) hx hb dX1_largest_5 (by decide) ?_
      refine is_icmp_ge (a := s0) (b := 256) (tgt := 38) hx hb (by omega) (by omega) dX1_largest_8 (by decide) (fun hs => ?_) (fun hs => ?_)
      · refine lv_iload_n hx hb dX1_largest_38 rfl (lv_at hl 1 rfl) ?_
        exact W.iret (v := acc) hx hb hr (fun t ht hW => ⟨⟨acc, (nI n, fb), rfl, ⟨by rw [h3, show s0 = 256 by omega], rfl⟩, by rw [ht]; exact hP, va_K.moved hW.alike hK, hD⟩, hS.F ht⟩) hS.2.2 dX1_largest_39
      · refine lv_aload_n hx hb dX1_largest_11 rfl (lv_at hl 2 rfl) ?_
        refine lv_iload_n hx hb dX1_largest_12 rfl (lv_at hl 0 rfl) ?_
        refine lv_iload_n hx hb dX1_largest_13 rfl (lv_at hl 3 rfl) ?_
        refine is_cVi (Wd := is_MW ha da) (u := (nI n, fb)) (As := [.int (nI s0), .int mm]) (rest := []) (b := ha 0) ⟨hx, hb, hml, hown, hts⟩ (metX1_isOften l dC dI ha da _ b n fb hn hbk s0 mm (by omega)) (cwV 2 hts (lw_V q150 q152 qs7 q12 q153) rfl rfl rfl (by decide +kernel) ⟨Nat.le_of_ble_eq_true rfl, Nat.le_of_ble_eq_true rfl⟩) (va_recv hK hP (ci := 1) (q0 := 0) rfl rfl) hK hP hD hS hA rfl hl.1 rfl (Nat.le_of_ble_eq_true rfl) dX1_largest_14 ⟨Nat.zero_le _, Nat.zero_le _⟩ (fun r u' H locs hw hP hD hS => ?_)
        obtain ⟨rfl, rfl⟩ := hw
        have hP : va_P (dC, dI) is_cl (is_MW ha da (nI n, fb)) H := hP
        have hD : va_D A (is_MW ha da (nI n, fb)) := hD
        cases hof : is_of b n mm s0
        · refine is_ti (nI 0) (rfl) ?_
          refine is_if_eq (a := 0) (tgt := 32) hx hb (by omega) dX1_largest_17 (by decide) (fun hz => ?_) (fun hz => ?_)
          · refine lv_iinc (v := nI (s0 + 1)) (lv' := [(3, .int (nI (s0 + 1))), (2, .int acc), (0, .ref (ha 0)), (1, .int mm)]) hx hb dX1_largest_32 hl (k := 0) rfl (is_inc s0) (by decide) rfl (fun ls hl => ?_)
            refine lv_goto (tgt := 4) hx hb dX1_largest_35 (by decide) ?_
            exact ihlo (s0 + 1) acc (by omega) (by omega) (by rw [is_fld_f hof, h3]) _ _ _ hP hD hS (lv_sub hl [0, 1, 2, 3] rfl)
          · exact absurd rfl hz
        · refine is_ti (nI 1) (rfl) ?_
          refine is_if_eq (a := 1) (tgt := 32) hx hb (by omega) dX1_largest_17 (by decide) (fun hz => ?_) (fun hz => ?_)
          · exact absurd hz (by decide)
          · have hm1 := (is_of_iff.mp hof).1
            refine lv_aload_n hx hb dX1_largest_20 rfl (lv_at hl 2 rfl) ?_
            refine lv_iload_n hx hb dX1_largest_21 rfl (lv_at hl 0 rfl) ?_
            refine lv_iload_n hx hb dX1_largest_22 rfl (lv_at hl 3 rfl) ?_
            refine is_cVi (Wd := is_MW ha da) (u := (nI n, fb)) (As := [.int (nI s0), .int mm]) (rest := []) (b := ha 0) ⟨hx, hb, hml, hown, hts⟩ (metX1_isLargest l dC dI ha da _ b n fb hn hbk s0 mm (by omega)) (cwV 2 hts (lw_V q167 q169 qs9 q12 q170) rfl rfl rfl (by decide +kernel) ⟨Nat.le_of_ble_eq_true rfl, Nat.le_of_ble_eq_true rfl⟩) (va_recv hK hP (ci := 1) (q0 := 0) rfl rfl) hK hP hD hS hA rfl hl.1 rfl (Nat.le_of_ble_eq_true rfl) dX1_largest_23 ⟨Nat.zero_le _, Nat.zero_le _⟩ (fun r u' H locs hw hP hD hS => ?_)
            obtain ⟨hfu, rfl⟩ := hw
            have hP : va_P (dC, dI) is_cl (is_MW ha da (nI n, fb)) H := hP
            have hD : va_D A (is_MW ha da (nI n, fb)) := hD
            rcases hfu with ⟨rfl, hfu⟩ | ⟨rfl, hfu⟩
            · refine is_if_eq (a := 1) (tgt := 32) hx hb (by omega) dX1_largest_26 (by decide) (fun hy => ?_) (fun hy => ?_)
              · exact absurd hy (by decide)
              · refine lv_iinc (v := acc + 1) (lv' := [(2, .int (acc + 1)), (3, .int (nI s0)), (0, .ref (ha 0)), (1, .int mm)]) hx hb dX1_largest_29 hl (k := 1) rfl (rfl) (by decide) rfl (fun ls hl => ?_)
                refine lv_iinc (v := nI (s0 + 1)) (lv' := [(3, .int (nI (s0 + 1))), (2, .int (acc + 1)), (0, .ref (ha 0)), (1, .int mm)]) hx hb dX1_largest_32 hl (k := 1) rfl (is_inc s0) (by decide) rfl (fun ls hl => ?_)
                refine lv_goto (tgt := 4) hx hb dX1_largest_35 (by decide) ?_
                exact ihlo (s0 + 1) _ (by omega) (by omega) (by rw [is_fld_t hof, h3]; unfold is_fL; rw [if_pos ((is_largest_law b hn (by omega) hm1).mp hfu)]; rfl) _ _ _ hP hD hS (lv_sub hl [0, 1, 2, 3] rfl)
            · refine is_if_eq (a := 0) (tgt := 32) hx hb (by omega) dX1_largest_26 (by decide) (fun hy => ?_) (fun hy => ?_)
              · refine lv_iinc (v := nI (s0 + 1)) (lv' := [(3, .int (nI (s0 + 1))), (2, .int acc), (0, .ref (ha 0)), (1, .int mm)]) hx hb dX1_largest_32 hl (k := 0) rfl (is_inc s0) (by decide) rfl (fun ls hl => ?_)
                refine lv_goto (tgt := 4) hx hb dX1_largest_35 (by decide) ?_
                exact ihlo (s0 + 1) acc (by omega) (by omega) (by rw [is_fld_t hof, h3]; unfold is_fL; rw [if_neg (fun z => hfu ((is_largest_law b hn (by omega) hm1).mpr z)), is_add0]) _ _ _ hP hD hS (lv_sub hl [0, 1, 2, 3] rfl)
              · exact absurd rfl hy
  exact lo 256 1 _ (by omega) (by omega) is_fld_1 _ _ _ hP hD hS (lv_sub hl [0, 1, 2, 3] rfl)
set_option maxHeartbeats 4000000 in
set_option maxRecDepth 100000 in
/-- goods(set): how many goods -/
theorem metX1_goods (l : Launch) (S : Nat) (hS8 : S < 256) : Met l yX1_goods (ws_ yX1_goods cX1_goods 3 (some .int)) ({ frames := 0, cells := 0, slots := 0, locals := 0 }) (va_Pc [.int (nI S)] (fun _ => True)) (va_Qi (fun (r : Int32) (_ : Unit) => r = nI (is_pc S)) (fun _ _ => True) (fun _ => False)) 0 0 (fun _ => False) := by
  refine Met.ofW (cc := cX1_goods) (maxL := 3) (ret := (some .int)) (by decide) rfl ?_
  intro p e s m args below meth c s₁ B hml hv
  obtain ⟨rfl, -⟩ := hv
  have hx := B.exec
  have hb := B.bytes
  have hr := B.returns
  have hlocks := B.notSynchronized
  obtain ⟨A, hAe⟩ : ∃ A : Nat → Prop, A = fun _ => False := ⟨_, rfl⟩
  rw [← hAe]
  have hS : va_S A s.heap s.heap [] := va_S.rf
  have hl := lv_entry ([.int (nI S)]) (n := 3) (Nat.le_of_ble_eq_true rfl)
  rw [lg_entry_eq]
  generalize (lg_sl ([.int (nI S)]) ++ List.replicate (3 - (lg_sl ([.int (nI S)])).length) Slot.unset).toArray = ls at hl ⊢
  have hl : lv_has ls 3 [(0, .int (nI S))] := hl
  refine lv_iconst (v := nI 0) hx hb dX1_goods_0 (by decide) ?_
  refine lv_istore_n (lv' := [(1, .int (nI 0)), (0, .int (nI S))]) hx hb dX1_goods_1 rfl hl (by decide) rfl (fun ls hl => ?_)
  refine lv_iconst (v := nI 0) hx hb dX1_goods_2 (by decide) ?_
  refine lv_istore_n (lv' := [(2, .int (nI 0)), (1, .int (nI 0)), (0, .int (nI S))]) hx hb dX1_goods_3 rfl hl (by decide) rfl (fun ls hl => ?_)
  have lo : ∀ (j : Nat) (g : Nat), 8 < g + j → g ≤ 8 → ∀ (H : Heap) (locs : List Loc) (ls : Array Slot), va_S A s.heap H locs → lv_has ls 3 [(2, .int (nI g)), (1, .int (nI (fb_ct S.testBit g))), (0, .int (nI S))] → W p l e (headSpec (ws_ yX1_goods cX1_goods 3 (some .int)) ({ frames := 0, cells := 0, slots := 0, locals := 0 })).room s m ([.int (nI S)] : List Value).toArray below meth c H locs 0 0 (MQ below (va_Qi (fun (r : Int32) (_ : Unit) => r = nI (is_pc S)) (fun _ _ => True) A) ([.int (nI S)] : List Value).toArray s 0 0 A) (F0 m 4 ls []) := by
    intro j
    induction j with
    | zero => intro g h1 h2; omega
    | succ j ihlo =>
      intro g h1 h2 H locs ls hS hl
      refine lv_iload_n hx hb dX1_goods_4 rfl (lv_at hl 0 rfl) ?_
      refine lv_bipush (v := nI 8) hx hb dX1_goods_5 (by decide) ?_
      refine is_icmp_ge (a := g) (b := 8) (tgt := 24) hx hb (by omega) (by omega) dX1_goods_7 (by decide) (fun h => ?_) (fun h => ?_)
      · refine lv_iload_n hx hb dX1_goods_24 rfl (lv_at hl 1 rfl) ?_
        exact W.iret (v := nI (fb_ct S.testBit g)) hx hb hr (fun t ht hW => ⟨⟨nI (fb_ct S.testBit g), (), rfl, by rw [show g = 8 by omega]; rfl, trivial⟩, hS.F ht⟩) hS.2.2 dX1_goods_25
      · refine lv_iload_n hx hb dX1_goods_10 rfl (lv_at hl 1 rfl) ?_
        refine lv_iload_n hx hb dX1_goods_11 rfl (lv_at hl 2 rfl) ?_
        refine lv_iload_n hx hb dX1_goods_12 rfl (lv_at hl 0 rfl) ?_
        refine lv_ishr hx hb dX1_goods_13 ?_
        refine is_ti (nI (S / 2 ^ g)) (pk_shrN (by omega) _ g (is_shrN g (by omega))) ?_
        refine lv_iconst (v := nI 1) hx hb dX1_goods_14 (by decide) ?_
        refine lv_iand hx hb dX1_goods_15 ?_
        refine is_ti (nI (if S.testBit g then 1 else 0)) (by rw [← is_b1_if]; exact is_a1 _) ?_
        refine lv_iadd hx hb dX1_goods_16 ?_
        refine is_ti (nI (fb_ct S.testBit (g + 1))) (nI_add _ _) ?_
        refine lv_istore_n (lv' := [(1, .int (nI (fb_ct S.testBit (g + 1)))), (2, .int (nI g)), (0, .int (nI S))]) hx hb dX1_goods_17 rfl hl (by decide) rfl (fun ls hl => ?_)
        refine lv_iinc (v := nI (g + 1)) (lv' := [(2, .int (nI (g + 1))), (1, .int (nI (fb_ct S.testBit (g + 1)))), (0, .int (nI S))]) hx hb dX1_goods_18 hl (k := 1) rfl (is_inc g) (by decide) rfl (fun ls hl => ?_)
        refine lv_goto (tgt := 4) hx hb dX1_goods_21 (by decide) ?_
        exact ihlo (g + 1) (by omega) (by omega) _ _ _ hS (lv_sub hl [0, 1, 2] rfl)
  exact lo 9 0 (by omega) (by omega) _ _ _ hS (lv_sub hl [0, 1, 2] rfl)
set_option maxHeartbeats 4000000 in
set_option maxRecDepth 100000 in
/-- size(m) -/
theorem metX1_size (l : Launch) (dC : Nat → ClassId) (dI : Nat → Nat → Nat) (ha : Nat → Nat) (da : Nat → ClassId) (sz : Nat) (b : Nat → Nat) (n : Nat) (fb : Nat → Int32) (hn : n ≤ 40) (hbk : is_Bk fb n b) (mm : Int32) : Met l yX1_size (ws_ yX1_size cX1_size 5 (some .int)) ({ frames := 2, cells := 0, slots := 0, locals := 46 }) (is_P dC dI (is_MT da) (is_MW ha da (nI n, fb)) sz [.ref (ha 0), .int mm]) (va_Qi (fun (r : Int32) (u' : is_UM) => r = is_fld (is_of b n mm) is_fS 256 ∧ u' = (nI n, fb)) (is_B dC dI (is_MT da) (is_MW ha da) (va_A (is_MW ha da (nI n, fb)) sz)) (va_A (is_MW ha da (nI n, fb)) sz)) 0 0 (va_A (is_MW ha da (nI n, fb)) sz) := by
  refine Met.ofW (cc := cX1_size) (maxL := 5) (ret := (some .int)) (by decide) rfl ?_
  intro p e s m args below meth c s₁ B hml hv
  obtain ⟨rfl, hsz, hP, hK, hD0⟩ := hv
  have hx := B.exec
  have hb := B.bytes
  have hr := B.returns
  have hts := atoms_spec (ws := (ws_ yX1_size cX1_size 5 (some .int))) B.pre
  have hts : ∀ w ∈ lw_all, w.before _ s = true := fun w h => hts w (List.mem_cons_of_mem _ h)
  have hown : s.vm.findClass RX1 = some m.cls := findClass_of_methodNamed B.named
  have hlocks := B.notSynchronized
  subst hsz
  have hD := hD0.self (sz := s.heap.size)
  generalize hAe : va_A (is_MW ha da (nI n, fb)) s.heap.size = A at hD ⊢
  have hA : ∀ q : Nat, s.heap.size ≤ q → A q := fun q h => by rw [← hAe]; exact Or.inr h
  have hS : va_S A s.heap s.heap [] := va_S.rf
  have hl := lv_entry ([.ref (ha 0), .int mm]) (n := 5) (Nat.le_of_ble_eq_true rfl)
  rw [lg_entry_eq]
  generalize (lg_sl ([.ref (ha 0), .int mm]) ++ List.replicate (5 - (lg_sl ([.ref (ha 0), .int mm])).length) Slot.unset).toArray = ls at hl ⊢
  have hl : lv_has ls 5 [(0, .ref (ha 0)), (1, .int mm)] := hl
  refine lv_iconst (v := nI 0) hx hb dX1_size_0 (by decide) ?_
  refine lv_istore_n (lv' := [(2, .int (nI 0)), (0, .ref (ha 0)), (1, .int mm)]) hx hb dX1_size_1 rfl hl (by decide) rfl (fun ls hl => ?_)
  refine lv_iconst (v := nI 1) hx hb dX1_size_2 (by decide) ?_
  refine lv_istore_n (lv' := [(3, .int (nI 1)), (2, .int (nI 0)), (0, .ref (ha 0)), (1, .int mm)]) hx hb dX1_size_3 rfl hl (by decide) rfl (fun ls hl => ?_)
  have lo : ∀ (j : Nat) (s0 : Nat) (acc : Int32), 256 < s0 + j → s0 ≤ 256 → acc = is_fld (is_of b n mm) is_fS s0 → ∀ (H : Heap) (locs : List Loc) (ls : Array Slot), va_P (dC, dI) is_cl (is_MW ha da (nI n, fb)) H → va_D A (is_MW ha da (nI n, fb)) → va_S A s.heap H locs → lv_has ls 5 [(3, .int (nI s0)), (2, .int acc), (0, .ref (ha 0)), (1, .int mm)] → W p l e (headSpec (ws_ yX1_size cX1_size 5 (some .int)) ({ frames := 2, cells := 0, slots := 0, locals := 46 })).room s m ([.ref (ha 0), .int mm] : List Value).toArray below meth c H locs 0 0 (MQ below (va_Qi (fun (r : Int32) (u' : is_UM) => r = is_fld (is_of b n mm) is_fS 256 ∧ u' = (nI n, fb)) (is_B dC dI (is_MT da) (is_MW ha da) A) A) ([.ref (ha 0), .int mm] : List Value).toArray s 0 0 A) (F0 m 4 ls []) := by
    intro j
    induction j with
    | zero => intro s0 acc h1 h2 h3; omega
    | succ j ihlo =>
      intro s0 acc h1 h2 h3 H locs ls hP hD hS hl
      refine lv_iload_n hx hb dX1_size_4 rfl (lv_at hl 0 rfl) ?_
      refine lv_sipush (v := nI 256) hx hb dX1_size_5 (by decide) ?_
      refine is_icmp_ge (a := s0) (b := 256) (tgt := 41) hx hb (by omega) (by omega) dX1_size_8 (by decide) (fun hs => ?_) (fun hs => ?_)
      · refine lv_iload_n hx hb dX1_size_41 rfl (lv_at hl 1 rfl) ?_
        exact W.iret (v := acc) hx hb hr (fun t ht hW => ⟨⟨acc, (nI n, fb), rfl, ⟨by rw [h3, show s0 = 256 by omega], rfl⟩, by rw [ht]; exact hP, va_K.moved hW.alike hK, hD⟩, hS.F ht⟩) hS.2.2 dX1_size_42
      · refine lv_iload_n hx hb dX1_size_11 rfl (lv_at hl 0 rfl) ?_
        refine is_cSi (As := [.int (nI s0)]) (rest := []) ⟨hx, hb, hml, hown, hts⟩ (metX1_goods l s0 (by omega)) (va_cwS 1 hts (lw_S q175 q176 q12 q177) rfl rfl rfl (by decide +kernel) ⟨Nat.le_of_ble_eq_true rfl, Nat.le_of_ble_eq_true rfl⟩) hP hS rfl hl.1 rfl (Nat.le_of_ble_eq_true rfl) dX1_size_12 ⟨Nat.zero_le _, Nat.zero_le _⟩ (fun r H locs hw hP hS => ?_)
        subst hw
        refine lv_istore (lv' := [(4, .int (nI (is_pc s0))), (3, .int (nI s0)), (2, .int acc), (0, .ref (ha 0)), (1, .int mm)]) hx hb dX1_size_15 hl (by decide) rfl (fun ls hl => ?_)
        refine lv_iload hx hb dX1_size_17 (lv_at hl 0 rfl) ?_
        refine lv_iload_n hx hb dX1_size_19 rfl (lv_at hl 2 rfl) ?_
        refine lv_icmp_le (tgt := 35) hx hb dX1_size_20 (by decide) (fun hc => ?_) (fun hc => ?_)
        · refine lv_iinc (v := nI (s0 + 1)) (lv' := [(3, .int (nI (s0 + 1))), (4, .int (nI (is_pc s0))), (2, .int acc), (0, .ref (ha 0)), (1, .int mm)]) hx hb dX1_size_35 hl (k := 1) rfl (is_inc s0) (by decide) rfl (fun ls hl => ?_)
          refine lv_goto (tgt := 4) hx hb dX1_size_38 (by decide) ?_
          exact ihlo (s0 + 1) acc (by omega) (by omega) (by
            cases hof : is_of b n mm s0
            · rw [is_fld_f hof, h3]
            · rw [is_fld_t hof, ← h3]; unfold is_fS; rw [if_pos hc]) _ _ _ hP hD hS (lv_sub hl [0, 2, 3, 4] rfl)
        · refine lv_aload_n hx hb dX1_size_23 rfl (lv_at hl 3 rfl) ?_
          refine lv_iload_n hx hb dX1_size_24 rfl (lv_at hl 1 rfl) ?_
          refine lv_iload_n hx hb dX1_size_25 rfl (lv_at hl 4 rfl) ?_
          refine is_cVi (Wd := is_MW ha da) (u := (nI n, fb)) (As := [.int (nI s0), .int mm]) (rest := []) (b := ha 0) ⟨hx, hb, hml, hown, hts⟩ (metX1_isOften l dC dI ha da _ b n fb hn hbk s0 mm (by omega)) (cwV 2 hts (lw_V q150 q152 qs7 q12 q153) rfl rfl rfl (by decide +kernel) ⟨Nat.le_of_ble_eq_true rfl, Nat.le_of_ble_eq_true rfl⟩) (va_recv hK hP (ci := 1) (q0 := 0) rfl rfl) hK hP hD hS hA rfl hl.1 rfl (Nat.le_of_ble_eq_true rfl) dX1_size_26 ⟨Nat.zero_le _, Nat.zero_le _⟩ (fun r u' H locs hw hP hD hS => ?_)
          obtain ⟨rfl, rfl⟩ := hw
          have hP : va_P (dC, dI) is_cl (is_MW ha da (nI n, fb)) H := hP
          have hD : va_D A (is_MW ha da (nI n, fb)) := hD
          cases hof : is_of b n mm s0
          · refine is_ti (nI 0) (rfl) ?_
            refine is_if_eq (a := 0) (tgt := 35) hx hb (by omega) dX1_size_29 (by decide) (fun hz => ?_) (fun hz => ?_)
            · refine lv_iinc (v := nI (s0 + 1)) (lv' := [(3, .int (nI (s0 + 1))), (4, .int (nI (is_pc s0))), (2, .int acc), (0, .ref (ha 0)), (1, .int mm)]) hx hb dX1_size_35 hl (k := 1) rfl (is_inc s0) (by decide) rfl (fun ls hl => ?_)
              refine lv_goto (tgt := 4) hx hb dX1_size_38 (by decide) ?_
              exact ihlo (s0 + 1) acc (by omega) (by omega) (by rw [is_fld_f hof, h3]) _ _ _ hP hD hS (lv_sub hl [0, 2, 3, 4] rfl)
            · exact absurd rfl hz
          · refine is_ti (nI 1) (rfl) ?_
            refine is_if_eq (a := 1) (tgt := 35) hx hb (by omega) dX1_size_29 (by decide) (fun hz => ?_) (fun hz => ?_)
            · exact absurd hz (by decide)
            · refine lv_iload hx hb dX1_size_32 (lv_at hl 0 rfl) ?_
              refine lv_istore_n (lv' := [(2, .int (nI (is_pc s0))), (4, .int (nI (is_pc s0))), (3, .int (nI s0)), (0, .ref (ha 0)), (1, .int mm)]) hx hb dX1_size_34 rfl hl (by decide) rfl (fun ls hl => ?_)
              refine lv_iinc (v := nI (s0 + 1)) (lv' := [(3, .int (nI (s0 + 1))), (2, .int (nI (is_pc s0))), (4, .int (nI (is_pc s0))), (0, .ref (ha 0)), (1, .int mm)]) hx hb dX1_size_35 hl (k := 2) rfl (is_inc s0) (by decide) rfl (fun ls hl => ?_)
              refine lv_goto (tgt := 4) hx hb dX1_size_38 (by decide) ?_
              exact ihlo (s0 + 1) _ (by omega) (by omega) (by rw [is_fld_t hof, ← h3]; unfold is_fS; rw [if_neg hc]) _ _ _ hP hD hS (lv_sub hl [0, 1, 3, 4] rfl)
  exact lo 256 1 _ (by omega) (by omega) is_fld_1 _ _ _ hP hD hS (lv_sub hl [0, 1, 2, 3] rfl)
set_option maxHeartbeats 4000000 in
set_option maxRecDepth 100000 in
/-- next(m, from) -/
theorem metX1_next (l : Launch) (dC : Nat → ClassId) (dI : Nat → Nat → Nat) (ha : Nat → Nat) (da : Nat → ClassId) (sz : Nat) (b : Nat → Nat) (n : Nat) (fb : Nat → Int32) (hn : n ≤ 40) (hbk : is_Bk fb n b) (mm fr : Int32) : Met l yX1_next (ws_ yX1_next cX1_next 4 (some .int)) ({ frames := 2, cells := 0, slots := 0, locals := 46 }) (is_P dC dI (is_MT da) (is_MW ha da (nI n, fb)) sz [.ref (ha 0), .int mm, .int fr]) (va_Qi (fun (r : Int32) (u' : is_UM) => is_nx (is_of b n mm) fr r ∧ u' = (nI n, fb)) (is_B dC dI (is_MT da) (is_MW ha da) (va_A (is_MW ha da (nI n, fb)) sz)) (va_A (is_MW ha da (nI n, fb)) sz)) 0 0 (va_A (is_MW ha da (nI n, fb)) sz) := by
  refine Met.ofW (cc := cX1_next) (maxL := 4) (ret := (some .int)) (by decide) rfl ?_
  intro p e s m args below meth c s₁ B hml hv
  obtain ⟨rfl, hsz, hP, hK, hD0⟩ := hv
  have hx := B.exec
  have hb := B.bytes
  have hr := B.returns
  have hts := atoms_spec (ws := (ws_ yX1_next cX1_next 4 (some .int))) B.pre
  have hts : ∀ w ∈ lw_all, w.before _ s = true := fun w h => hts w (List.mem_cons_of_mem _ h)
  have hown : s.vm.findClass RX1 = some m.cls := findClass_of_methodNamed B.named
  have hlocks := B.notSynchronized
  subst hsz
  have hD := hD0.self (sz := s.heap.size)
  generalize hAe : va_A (is_MW ha da (nI n, fb)) s.heap.size = A at hD ⊢
  have hA : ∀ q : Nat, s.heap.size ≤ q → A q := fun q h => by rw [← hAe]; exact Or.inr h
  have hS : va_S A s.heap s.heap [] := va_S.rf
  have hl := lv_entry ([.ref (ha 0), .int mm, .int fr]) (n := 4) (Nat.le_of_ble_eq_true rfl)
  rw [lg_entry_eq]
  generalize (lg_sl ([.ref (ha 0), .int mm, .int fr]) ++ List.replicate (4 - (lg_sl ([.ref (ha 0), .int mm, .int fr])).length) Slot.unset).toArray = ls at hl ⊢
  have hl : lv_has ls 4 [(0, .ref (ha 0)), (1, .int mm), (2, .int fr)] := hl
  refine lv_iconst (v := nI 1) hx hb dX1_next_0 (by decide) ?_
  refine lv_istore_n (lv' := [(3, .int (nI 1)), (0, .ref (ha 0)), (1, .int mm), (2, .int fr)]) hx hb dX1_next_1 rfl hl (by decide) rfl (fun ls hl => ?_)
  have lo : ∀ (j : Nat) (s0 : Nat), 256 < s0 + j → s0 ≤ 256 → is_nI b n mm fr s0 → ∀ (H : Heap) (locs : List Loc) (ls : Array Slot), va_P (dC, dI) is_cl (is_MW ha da (nI n, fb)) H → va_D A (is_MW ha da (nI n, fb)) → va_S A s.heap H locs → lv_has ls 4 [(3, .int (nI s0)), (0, .ref (ha 0)), (1, .int mm), (2, .int fr)] → W p l e (headSpec (ws_ yX1_next cX1_next 4 (some .int)) ({ frames := 2, cells := 0, slots := 0, locals := 46 })).room s m ([.ref (ha 0), .int mm, .int fr] : List Value).toArray below meth c H locs 0 0 (MQ below (va_Qi (fun (r : Int32) (u' : is_UM) => is_nx (is_of b n mm) fr r ∧ u' = (nI n, fb)) (is_B dC dI (is_MT da) (is_MW ha da) A) A) ([.ref (ha 0), .int mm, .int fr] : List Value).toArray s 0 0 A) (F0 m 2 ls []) := by
    intro j
    induction j with
    | zero => intro s0 h1 h2 h3; omega
    | succ j ihlo =>
      intro s0 h1 h2 h3 H locs ls hP hD hS hl
      refine lv_iload_n hx hb dX1_next_2 rfl (lv_at hl 0 rfl) ?_
      refine lv_sipush (v := nI 256) hx hb dX1_next_3 (by decide) ?_
      refine is_icmp_ge (a := s0) (b := 256) (tgt := 31) hx hb (by omega) (by omega) dX1_next_6 (by decide) (fun hs => ?_) (fun hs => ?_)
      · refine lv_iconst (v := (-1)) hx hb dX1_next_31 (by decide) ?_
        exact W.iret (v := -1) hx hb hr (fun t ht hW => ⟨⟨-1, (nI n, fb), rfl, ⟨Or.inr ⟨fun s q => h3 s (by omega), rfl⟩, rfl⟩, by rw [ht]; exact hP, va_K.moved hW.alike hK, hD⟩, hS.F ht⟩) hS.2.2 dX1_next_32
      · refine lv_iload_n hx hb dX1_next_9 rfl (lv_at hl 0 rfl) ?_
        refine lv_iload_n hx hb dX1_next_10 rfl (lv_at hl 3 rfl) ?_
        refine lv_icmp_lt (tgt := 25) hx hb dX1_next_11 (by decide) (fun hc => ?_) (fun hc => ?_)
        · refine lv_iinc (v := nI (s0 + 1)) (lv' := [(3, .int (nI (s0 + 1))), (0, .ref (ha 0)), (1, .int mm), (2, .int fr)]) hx hb dX1_next_25 hl (k := 0) rfl (is_inc s0) (by decide) rfl (fun ls hl => ?_)
          refine lv_goto (tgt := 2) hx hb dX1_next_28 (by decide) ?_
          exact ihlo (s0 + 1) (by omega) (by omega) (fun t q1 q2 => by
            rcases Nat.lt_or_ge t s0 with z | z
            · exact h3 t z q2
            · have e : t = s0 := by omega
              subst e
              exact is_not_le.mpr hc q2.2) _ _ _ hP hD hS (lv_sub hl [0, 1, 2, 3] rfl)
        · refine lv_aload_n hx hb dX1_next_14 rfl (lv_at hl 1 rfl) ?_
          refine lv_iload_n hx hb dX1_next_15 rfl (lv_at hl 0 rfl) ?_
          refine lv_iload_n hx hb dX1_next_16 rfl (lv_at hl 2 rfl) ?_
          refine is_cVi (Wd := is_MW ha da) (u := (nI n, fb)) (As := [.int (nI s0), .int mm]) (rest := []) (b := ha 0) ⟨hx, hb, hml, hown, hts⟩ (metX1_isOften l dC dI ha da _ b n fb hn hbk s0 mm (by omega)) (cwV 2 hts (lw_V q150 q152 qs7 q12 q153) rfl rfl rfl (by decide +kernel) ⟨Nat.le_of_ble_eq_true rfl, Nat.le_of_ble_eq_true rfl⟩) (va_recv hK hP (ci := 1) (q0 := 0) rfl rfl) hK hP hD hS hA rfl hl.1 rfl (Nat.le_of_ble_eq_true rfl) dX1_next_17 ⟨Nat.zero_le _, Nat.zero_le _⟩ (fun r u' H locs hw hP hD hS => ?_)
          obtain ⟨rfl, rfl⟩ := hw
          have hP : va_P (dC, dI) is_cl (is_MW ha da (nI n, fb)) H := hP
          have hD : va_D A (is_MW ha da (nI n, fb)) := hD
          cases hof : is_of b n mm s0
          · refine is_ti (nI 0) (rfl) ?_
            refine is_if_eq (a := 0) (tgt := 25) hx hb (by omega) dX1_next_20 (by decide) (fun hz => ?_) (fun hz => ?_)
            · refine lv_iinc (v := nI (s0 + 1)) (lv' := [(3, .int (nI (s0 + 1))), (0, .ref (ha 0)), (1, .int mm), (2, .int fr)]) hx hb dX1_next_25 hl (k := 0) rfl (is_inc s0) (by decide) rfl (fun ls hl => ?_)
              refine lv_goto (tgt := 2) hx hb dX1_next_28 (by decide) ?_
              exact ihlo (s0 + 1) (by omega) (by omega) (fun t q1 q2 => by
                rcases Nat.lt_or_ge t s0 with z | z
                · exact h3 t z q2
                · have e : t = s0 := by omega
                  subst e
                  rw [hof] at q2; exact Bool.false_ne_true q2.1) _ _ _ hP hD hS (lv_sub hl [0, 1, 2, 3] rfl)
            · exact absurd rfl hz
          · refine is_ti (nI 1) (rfl) ?_
            refine is_if_eq (a := 1) (tgt := 25) hx hb (by omega) dX1_next_20 (by decide) (fun hz => ?_) (fun hz => ?_)
            · exact absurd hz (by decide)
            · refine lv_iload_n hx hb dX1_next_23 rfl (lv_at hl 0 rfl) ?_
              exact W.iret (v := nI s0) hx hb hr (fun t ht hW => ⟨⟨nI s0, (nI n, fb), rfl, ⟨Or.inl ⟨s0, by omega, hof, Classical.byContradiction fun q => hc (is_not_le.mp q), h3, rfl⟩, rfl⟩, by rw [ht]; exact hP, va_K.moved hW.alike hK, hD⟩, hS.F ht⟩) hS.2.2 dX1_next_24
  exact lo 256 1 (by omega) (by omega) (fun t q1 q2 => by rw [show t = 0 by omega, is_of_0] at q2; exact Bool.false_ne_true q2.1) _ _ _ hP hD hS (lv_sub hl [0, 1, 2, 3] rfl)
set_option maxHeartbeats 4000000 in
set_option maxRecDepth 100000 in
/-- closure(set) -/
theorem metX1_closure (l : Launch) (dC : Nat → ClassId) (dI : Nat → Nat → Nat) (ha : Nat → Nat) (da : Nat → ClassId) (sz : Nat) (b : Nat → Nat) (n : Nat) (fb : Nat → Int32) (hn : n ≤ 40) (hbk : is_Bk fb n b) (v : Nat) (hv : v < 2 ^ 32) : Met l yX1_closure (ws_ yX1_closure cX1_closure 6 (some .int)) ({ frames := 1, cells := 0, slots := 0, locals := 24 }) (is_P dC dI (is_MT da) (is_MW ha da (nI n, fb)) sz [.ref (ha 0), .int (nI v)]) (va_Qi (fun (r : Int32) (u' : is_UM) => r = nI (is_clo b n (v % 256) 8) ∧ u' = (nI n, fb)) (is_B dC dI (is_MT da) (is_MW ha da) (va_A (is_MW ha da (nI n, fb)) sz)) (va_A (is_MW ha da (nI n, fb)) sz)) 0 0 (va_A (is_MW ha da (nI n, fb)) sz) := by
  refine Met.ofW (cc := cX1_closure) (maxL := 6) (ret := (some .int)) (by decide) rfl ?_
  intro p e s m args below meth c s₁ B hml hv
  obtain ⟨rfl, hsz, hP, hK, hD0⟩ := hv
  have hx := B.exec
  have hb := B.bytes
  have hr := B.returns
  have hts := atoms_spec (ws := (ws_ yX1_closure cX1_closure 6 (some .int))) B.pre
  have hts : ∀ w ∈ lw_all, w.before _ s = true := fun w h => hts w (List.mem_cons_of_mem _ h)
  have hown : s.vm.findClass RX1 = some m.cls := findClass_of_methodNamed B.named
  have hlocks := B.notSynchronized
  subst hsz
  have hD := hD0.self (sz := s.heap.size)
  generalize hAe : va_A (is_MW ha da (nI n, fb)) s.heap.size = A at hD ⊢
  have hA : ∀ q : Nat, s.heap.size ≤ q → A q := fun q h => by rw [← hAe]; exact Or.inr h
  have hS : va_S A s.heap s.heap [] := va_S.rf
  have hl := lv_entry ([.ref (ha 0), .int (nI v)]) (n := 6) (Nat.le_of_ble_eq_true rfl)
  rw [lg_entry_eq]
  generalize (lg_sl ([.ref (ha 0), .int (nI v)]) ++ List.replicate (6 - (lg_sl ([.ref (ha 0), .int (nI v)])).length) Slot.unset).toArray = ls at hl ⊢
  have hl : lv_has ls 6 [(0, .ref (ha 0)), (1, .int (nI v))] := hl
  refine lv_iload_n hx hb dX1_closure_0 rfl (lv_at hl 1 rfl) ?_
  refine lv_sipush (v := nI 255) hx hb dX1_closure_1 (by decide) ?_
  refine lv_iand hx hb dX1_closure_4 ?_
  refine is_ti (nI (v % 256)) (is_255 hv) ?_
  have hs : v % 256 < 256 := Nat.mod_lt _ (by decide)
  generalize v % 256 = s0 at hs ⊢
  refine lv_istore_n (lv' := [(2, .int (nI s0)), (0, .ref (ha 0)), (1, .int (nI v))]) hx hb dX1_closure_5 rfl hl (by decide) rfl (fun ls hl => ?_)
  refine lv_aload_n hx hb dX1_closure_6 rfl (lv_at hl 1 rfl) ?_
  refine lv_iload_n hx hb dX1_closure_7 rfl (lv_at hl 0 rfl) ?_
  refine is_cVi (Wd := is_MW ha da) (u := (nI n, fb)) (As := [.int (nI s0)]) (rest := []) (b := ha 0) ⟨hx, hb, hml, hown, hts⟩ (metX1_support l dC dI ha da _ b n fb hn hbk s0 (by have := hs; omega)) (cwV 1 hts (lw_V q154 q143 q144 q12 q145) rfl rfl rfl (by decide +kernel) ⟨Nat.le_of_ble_eq_true rfl, Nat.le_of_ble_eq_true rfl⟩) (va_recv hK hP (ci := 1) (q0 := 0) rfl rfl) hK hP hD hS hA rfl hl.1 rfl (Nat.le_of_ble_eq_true rfl) dX1_closure_8 ⟨Nat.zero_le _, Nat.zero_le _⟩ (fun r u' H locs hw hP hD hS => ?_)
  obtain ⟨rfl, rfl⟩ := hw
  have hP : va_P (dC, dI) is_cl (is_MW ha da (nI n, fb)) H := hP
  have hD : va_D A (is_MW ha da (nI n, fb)) := hD
  refine is_ti (nI (is_sup b n s0)) (by rw [Nat.mod_eq_of_lt (hs)]) ?_
  have hn1 := is_sup_le b n s0
  refine lv_istore_n (lv' := [(3, .int (nI (is_sup b n s0))), (2, .int (nI s0)), (0, .ref (ha 0)), (1, .int (nI v))]) hx hb dX1_closure_11 rfl hl (by decide) rfl (fun ls hl => ?_)
  refine lv_iload_n hx hb dX1_closure_12 rfl (lv_at hl 1 rfl) ?_
  refine lv_istore (lv' := [(4, .int (nI s0)), (3, .int (nI (is_sup b n s0))), (2, .int (nI s0)), (0, .ref (ha 0)), (1, .int (nI v))]) hx hb dX1_closure_13 hl (by decide) rfl (fun ls hl => ?_)
  refine lv_iload_n hx hb dX1_closure_15 rfl (lv_at hl 1 rfl) ?_
  refine is_if_ne (a := (is_sup b n s0)) (tgt := 23) hx hb (by omega) dX1_closure_16 (by decide) (fun h0 => ?_) (fun h0 => ?_)
  · refine lv_iconst (v := nI 0) hx hb dX1_closure_23 (by decide) ?_
    refine lv_istore (lv' := [(5, .int (nI 0)), (4, .int (nI s0)), (3, .int (nI (is_sup b n s0))), (2, .int (nI s0)), (0, .ref (ha 0)), (1, .int (nI v))]) hx hb dX1_closure_24 hl (by decide) rfl (fun ls hl => ?_)
    have lo : ∀ (j : Nat) (t0 x : Nat), 256 < t0 + j → t0 ≤ 256 → x = is_sc b n s0 t0 → x < 256 → ∀ (H : Heap) (locs : List Loc) (ls : Array Slot), va_P (dC, dI) is_cl (is_MW ha da (nI n, fb)) H → va_D A (is_MW ha da (nI n, fb)) → va_S A s.heap H locs → lv_has ls 6 [(5, .int (nI t0)), (4, .int (nI x)), (3, .int (nI (is_sup b n s0))), (2, .int (nI s0)), (0, .ref (ha 0)), (1, .int (nI v))] → W p l e (headSpec (ws_ yX1_closure cX1_closure 6 (some .int)) ({ frames := 1, cells := 0, slots := 0, locals := 24 })).room s m ([.ref (ha 0), .int (nI v)] : List Value).toArray below meth c H locs 0 0 (MQ below (va_Qi (fun (r : Int32) (u' : is_UM) => r = nI (is_clo b n (s0) 8) ∧ u' = (nI n, fb)) (is_B dC dI (is_MT da) (is_MW ha da) A) A) ([.ref (ha 0), .int (nI v)] : List Value).toArray s 0 0 A) (F0 m 26 ls []) := by
      intro j
      induction j with
      | zero => intro t0 x h1 h2 h3 h4; omega
      | succ j ihlo =>
        intro t0 x h1 h2 h3 h4 H locs ls hP hD hS hl
        have hle : t0 &&& s0 ≤ s0 := Nat.and_le_right
        have hle2 : t0 &&& x ≤ x := Nat.and_le_right
        have hn2 := is_sup_le b n t0
        refine lv_iload hx hb dX1_closure_26 (lv_at hl 0 rfl) ?_
        refine lv_sipush (v := nI 256) hx hb dX1_closure_28 (by decide) ?_
        refine is_icmp_ge (a := t0) (b := 256) (tgt := 72) hx hb (by omega) (by omega) dX1_closure_31 (by decide) (fun ht => ?_) (fun ht => ?_)
        · refine lv_iload hx hb dX1_closure_72 (lv_at hl 1 rfl) ?_
          exact W.iret (v := nI x) hx hb hr (fun t ht hW => ⟨⟨nI x, (nI n, fb), rfl, ⟨by rw [h3, show t0 = 256 by omega, is_closure_law b hn hs], rfl⟩, by rw [ht]; exact hP, va_K.moved hW.alike hK, hD⟩, hS.F ht⟩) hS.2.2 dX1_closure_74
        · refine lv_iload hx hb dX1_closure_34 (lv_at hl 0 rfl) ?_
          refine lv_iload_n hx hb dX1_closure_36 rfl (lv_at hl 3 rfl) ?_
          refine lv_iand hx hb dX1_closure_37 ?_
          refine is_ti (nI (t0 &&& s0)) (is_and _ _) ?_
          refine lv_iload_n hx hb dX1_closure_38 rfl (lv_at hl 3 rfl) ?_
          refine is_icmp_ne (a := (t0 &&& s0)) (b := s0) (tgt := 66) hx hb (by omega) (by omega) dX1_closure_39 (by decide) (fun c1 => ?_) (fun c1 => ?_)
          · refine lv_iinc (v := nI (t0 + 1)) (lv' := [(5, .int (nI (t0 + 1))), (4, .int (nI x)), (3, .int (nI (is_sup b n s0))), (2, .int (nI s0)), (0, .ref (ha 0)), (1, .int (nI v))]) hx hb dX1_closure_66 hl (k := 0) rfl (is_inc t0) (by decide) rfl (fun ls hl => ?_)
            refine lv_goto (tgt := 26) hx hb dX1_closure_69 (by decide) ?_
            exact ihlo (t0 + 1) x (by omega) (by omega) (is_sc_f h3 (fun q => c1 q.1)) h4 _ _ _ hP hD hS (lv_sub hl [0, 1, 2, 3, 4, 5] rfl)
          · refine lv_aload_n hx hb dX1_closure_42 rfl (lv_at hl 4 rfl) ?_
            refine lv_iload hx hb dX1_closure_43 (lv_at hl 0 rfl) ?_
            refine is_cVi (Wd := is_MW ha da) (u := (nI n, fb)) (As := [.int (nI t0)]) (rest := []) (b := ha 0) ⟨hx, hb, hml, hown, hts⟩ (metX1_support l dC dI ha da _ b n fb hn hbk t0 (by have := (show t0 < 256 by omega); omega)) (cwV 1 hts (lw_V q154 q143 q144 q12 q145) rfl rfl rfl (by decide +kernel) ⟨Nat.le_of_ble_eq_true rfl, Nat.le_of_ble_eq_true rfl⟩) (va_recv hK hP (ci := 1) (q0 := 0) rfl rfl) hK hP hD hS hA rfl hl.1 rfl (Nat.le_of_ble_eq_true rfl) dX1_closure_45 ⟨Nat.zero_le _, Nat.zero_le _⟩ (fun r u' H locs hw hP hD hS => ?_)
            obtain ⟨rfl, rfl⟩ := hw
            have hP : va_P (dC, dI) is_cl (is_MW ha da (nI n, fb)) H := hP
            have hD : va_D A (is_MW ha da (nI n, fb)) := hD
            refine is_ti (nI (is_sup b n t0)) (by rw [Nat.mod_eq_of_lt ((show t0 < 256 by omega))]) ?_
            refine lv_iload_n hx hb dX1_closure_48 rfl (lv_at hl 2 rfl) ?_
            refine is_icmp_ne (a := (is_sup b n t0)) (b := (is_sup b n s0)) (tgt := 66) hx hb (by omega) (by omega) dX1_closure_49 (by decide) (fun c2 => ?_) (fun c2 => ?_)
            · refine lv_iinc (v := nI (t0 + 1)) (lv' := [(5, .int (nI (t0 + 1))), (4, .int (nI x)), (3, .int (nI (is_sup b n s0))), (2, .int (nI s0)), (0, .ref (ha 0)), (1, .int (nI v))]) hx hb dX1_closure_66 hl (k := 0) rfl (is_inc t0) (by decide) rfl (fun ls hl => ?_)
              refine lv_goto (tgt := 26) hx hb dX1_closure_69 (by decide) ?_
              exact ihlo (t0 + 1) x (by omega) (by omega) (is_sc_f h3 (fun q => c2 q.2.1)) h4 _ _ _ hP hD hS (lv_sub hl [0, 1, 2, 3, 4, 5] rfl)
            · refine lv_iload hx hb dX1_closure_52 (lv_at hl 0 rfl) ?_
              refine lv_iload hx hb dX1_closure_54 (lv_at hl 1 rfl) ?_
              refine lv_iand hx hb dX1_closure_56 ?_
              refine is_ti (nI (t0 &&& x)) (is_and _ _) ?_
              refine lv_iload hx hb dX1_closure_57 (lv_at hl 1 rfl) ?_
              refine is_icmp_ne (a := (t0 &&& x)) (b := x) (tgt := 66) hx hb (by omega) (by omega) dX1_closure_59 (by decide) (fun c3 => ?_) (fun c3 => ?_)
              · refine lv_iinc (v := nI (t0 + 1)) (lv' := [(5, .int (nI (t0 + 1))), (4, .int (nI x)), (3, .int (nI (is_sup b n s0))), (2, .int (nI s0)), (0, .ref (ha 0)), (1, .int (nI v))]) hx hb dX1_closure_66 hl (k := 0) rfl (is_inc t0) (by decide) rfl (fun ls hl => ?_)
                refine lv_goto (tgt := 26) hx hb dX1_closure_69 (by decide) ?_
                exact ihlo (t0 + 1) x (by omega) (by omega) (is_sc_f h3 (fun q => c3 q.2.2)) h4 _ _ _ hP hD hS (lv_sub hl [0, 1, 2, 3, 4, 5] rfl)
              · refine lv_iload hx hb dX1_closure_62 (lv_at hl 0 rfl) ?_
                refine lv_istore (lv' := [(4, .int (nI t0)), (5, .int (nI t0)), (3, .int (nI (is_sup b n s0))), (2, .int (nI s0)), (0, .ref (ha 0)), (1, .int (nI v))]) hx hb dX1_closure_64 hl (by decide) rfl (fun ls hl => ?_)
                refine lv_iinc (v := nI (t0 + 1)) (lv' := [(5, .int (nI (t0 + 1))), (4, .int (nI t0)), (3, .int (nI (is_sup b n s0))), (2, .int (nI s0)), (0, .ref (ha 0)), (1, .int (nI v))]) hx hb dX1_closure_66 hl (k := 1) rfl (is_inc t0) (by decide) rfl (fun ls hl => ?_)
                refine lv_goto (tgt := 26) hx hb dX1_closure_69 (by decide) ?_
                exact ihlo (t0 + 1) t0 (by omega) (by omega) (is_sc_t h3 c1 c2 c3) (by omega) _ _ _ hP hD hS (lv_sub hl [0, 1, 2, 3, 4, 5] rfl)
    exact lo 257 0 s0 (by omega) (by omega) rfl hs _ _ _ hP hD hS (lv_sub hl [0, 1, 2, 3, 4, 5] rfl)
  · refine lv_sipush (v := nI 255) hx hb dX1_closure_19 (by decide) ?_
    exact W.iret (v := nI 255) hx hb hr (fun t ht hW => ⟨⟨nI 255, (nI n, fb), rfl, ⟨by rw [is_closure_0 b hn hs h0], rfl⟩, by rw [ht]; exact hP, va_K.moved hW.alike hK, hD⟩, hS.F ht⟩) hS.2.2 dX1_closure_22
set_option maxHeartbeats 4000000 in
set_option maxRecDepth 100000 in
/-- rules(m, percent) -/
theorem metX1_rules (l : Launch) (dC : Nat → ClassId) (dI : Nat → Nat → Nat) (ha : Nat → Nat) (da : Nat → ClassId) (sz : Nat) (b : Nat → Nat) (n : Nat) (fb : Nat → Int32) (hn : n ≤ 40) (hbk : is_Bk fb n b) (mm p1 : Int32) : Met l yX1_rules (ws_ yX1_rules cX1_rules 8 (some .int)) ({ frames := 2, cells := 0, slots := 0, locals := 46 }) (is_P dC dI (is_MT da) (is_MW ha da (nI n, fb)) sz [.ref (ha 0), .int mm, .int p1]) (va_Qi (fun (r : Int32) (u' : is_UM) => r = is_fld (is_of b n mm) (is_fR b n p1) 256 ∧ u' = (nI n, fb)) (is_B dC dI (is_MT da) (is_MW ha da) (va_A (is_MW ha da (nI n, fb)) sz)) (va_A (is_MW ha da (nI n, fb)) sz)) 0 0 (va_A (is_MW ha da (nI n, fb)) sz) := by
  refine Met.ofW (cc := cX1_rules) (maxL := 8) (ret := (some .int)) (by decide) rfl ?_
  intro p e s m args below meth c s₁ B hml hv
  obtain ⟨rfl, hsz, hP, hK, hD0⟩ := hv
  have hx := B.exec
  have hb := B.bytes
  have hr := B.returns
  have hts := atoms_spec (ws := (ws_ yX1_rules cX1_rules 8 (some .int))) B.pre
  have hts : ∀ w ∈ lw_all, w.before _ s = true := fun w h => hts w (List.mem_cons_of_mem _ h)
  have hown : s.vm.findClass RX1 = some m.cls := findClass_of_methodNamed B.named
  have hlocks := B.notSynchronized
  subst hsz
  have hD := hD0.self (sz := s.heap.size)
  generalize hAe : va_A (is_MW ha da (nI n, fb)) s.heap.size = A at hD ⊢
  have hA : ∀ q : Nat, s.heap.size ≤ q → A q := fun q h => by rw [← hAe]; exact Or.inr h
  have hS : va_S A s.heap s.heap [] := va_S.rf
  have hl := lv_entry ([.ref (ha 0), .int mm, .int p1]) (n := 8) (Nat.le_of_ble_eq_true rfl)
  rw [lg_entry_eq]
  generalize (lg_sl ([.ref (ha 0), .int mm, .int p1]) ++ List.replicate (8 - (lg_sl ([.ref (ha 0), .int mm, .int p1])).length) Slot.unset).toArray = ls at hl ⊢
  have hl : lv_has ls 8 [(0, .ref (ha 0)), (1, .int mm), (2, .int p1)] := hl
  refine lv_iconst (v := nI 0) hx hb dX1_rules_0 (by decide) ?_
  refine lv_istore_n (lv' := [(3, .int (nI 0)), (0, .ref (ha 0)), (1, .int mm), (2, .int p1)]) hx hb dX1_rules_1 rfl hl (by decide) rfl (fun ls hl => ?_)
  refine lv_iconst (v := nI 1) hx hb dX1_rules_2 (by decide) ?_
  refine lv_istore (lv' := [(4, .int (nI 1)), (3, .int (nI 0)), (0, .ref (ha 0)), (1, .int mm), (2, .int p1)]) hx hb dX1_rules_3 hl (by decide) rfl (fun ls hl => ?_)
  have lo : ∀ (j : Nat) (s0 : Nat) (acc : Int32), 256 < s0 + j → s0 ≤ 256 → acc = is_fld (is_of b n mm) (is_fR b n p1) s0 → ∀ (H : Heap) (locs : List Loc) (ls : Array Slot), va_P (dC, dI) is_cl (is_MW ha da (nI n, fb)) H → va_D A (is_MW ha da (nI n, fb)) → va_S A s.heap H locs → lv_has ls 8 [(4, .int (nI s0)), (3, .int acc), (0, .ref (ha 0)), (1, .int mm), (2, .int p1)] → W p l e (headSpec (ws_ yX1_rules cX1_rules 8 (some .int)) ({ frames := 2, cells := 0, slots := 0, locals := 46 })).room s m ([.ref (ha 0), .int mm, .int p1] : List Value).toArray below meth c H locs 0 0 (MQ below (va_Qi (fun (r : Int32) (u' : is_UM) => r = is_fld (is_of b n mm) (is_fR b n p1) 256 ∧ u' = (nI n, fb)) (is_B dC dI (is_MT da) (is_MW ha da) A) A) ([.ref (ha 0), .int mm, .int p1] : List Value).toArray s 0 0 A) (F0 m 5 ls []) := by
    intro j
    induction j with
    | zero => intro s0 acc h1 h2 h3; omega
    | succ j ihlo =>
      intro s0 acc h1 h2 h3 H locs ls hP hD hS hl
      refine lv_iload hx hb dX1_rules_5 (lv_at hl 0 rfl) ?_
      refine lv_sipush (v := nI 256) hx hb dX1_rules_7 (by decide) ?_
      refine is_icmp_ge (a := s0) (b := 256) (tgt := 87) hx hb (by omega) (by omega) dX1_rules_10 (by decide) (fun hs => ?_) (fun hs => ?_)
      · refine lv_iload_n hx hb dX1_rules_87 rfl (lv_at hl 1 rfl) ?_
        exact W.iret (v := acc) hx hb hr (fun t ht hW => ⟨⟨acc, (nI n, fb), rfl, ⟨by rw [h3, show s0 = 256 by omega], rfl⟩, by rw [ht]; exact hP, va_K.moved hW.alike hK, hD⟩, hS.F ht⟩) hS.2.2 dX1_rules_88
      · refine lv_aload_n hx hb dX1_rules_13 rfl (lv_at hl 2 rfl) ?_
        refine lv_iload hx hb dX1_rules_14 (lv_at hl 0 rfl) ?_
        refine lv_iload_n hx hb dX1_rules_16 rfl (lv_at hl 3 rfl) ?_
        refine is_cVi (Wd := is_MW ha da) (u := (nI n, fb)) (As := [.int (nI s0), .int mm]) (rest := []) (b := ha 0) ⟨hx, hb, hml, hown, hts⟩ (metX1_isOften l dC dI ha da _ b n fb hn hbk s0 mm (by omega)) (cwV 2 hts (lw_V q150 q152 qs7 q12 q153) rfl rfl rfl (by decide +kernel) ⟨Nat.le_of_ble_eq_true rfl, Nat.le_of_ble_eq_true rfl⟩) (va_recv hK hP (ci := 1) (q0 := 0) rfl rfl) hK hP hD hS hA rfl hl.1 rfl (Nat.le_of_ble_eq_true rfl) dX1_rules_17 ⟨Nat.zero_le _, Nat.zero_le _⟩ (fun r u' H locs hw hP hD hS => ?_)
        obtain ⟨rfl, rfl⟩ := hw
        have hP : va_P (dC, dI) is_cl (is_MW ha da (nI n, fb)) H := hP
        have hD : va_D A (is_MW ha da (nI n, fb)) := hD
        cases hof : is_of b n mm s0
        · refine is_ti (nI 0) (rfl) ?_
          refine is_if_eq (a := 0) (tgt := 81) hx hb (by omega) dX1_rules_20 (by decide) (fun hz => ?_) (fun hz => ?_)
          · refine lv_iinc (v := nI (s0 + 1)) (lv' := [(4, .int (nI (s0 + 1))), (3, .int acc), (0, .ref (ha 0)), (1, .int mm), (2, .int p1)]) hx hb dX1_rules_81 hl (k := 0) rfl (is_inc s0) (by decide) rfl (fun ls hl => ?_)
            refine lv_goto (tgt := 5) hx hb dX1_rules_84 (by decide) ?_
            exact ihlo (s0 + 1) acc (by omega) (by omega) (by rw [is_fld_f hof, h3]) _ _ _ hP hD hS (lv_sub hl [0, 1, 2, 3, 4] rfl)
          · exact absurd rfl hz
        · refine is_ti (nI 1) (rfl) ?_
          refine is_if_eq (a := 1) (tgt := 81) hx hb (by omega) dX1_rules_20 (by decide) (fun hz => ?_) (fun hz => ?_)
          · exact absurd hz (by decide)
          · refine lv_ldc2 (v := 100) hx hb hown (hts _ q190) dX1_rules_23 ?_
            refine lv_aload_n hx hb dX1_rules_26 rfl (lv_at hl 2 rfl) ?_
            refine lv_iload hx hb dX1_rules_27 (lv_at hl 0 rfl) ?_
            refine is_cVi (Wd := is_MW ha da) (u := (nI n, fb)) (As := [.int (nI s0)]) (rest := [.long 100]) (b := ha 0) ⟨hx, hb, hml, hown, hts⟩ (metX1_support l dC dI ha da _ b n fb hn hbk s0 (by have := (show s0 < 256 by omega); omega)) (cwV 1 hts (lw_V q154 q143 q144 q12 q145) rfl rfl rfl (by decide +kernel) ⟨Nat.le_of_ble_eq_true rfl, Nat.le_of_ble_eq_true rfl⟩) (va_recv hK hP (ci := 1) (q0 := 0) rfl rfl) hK hP hD hS hA rfl hl.1 rfl (Nat.le_of_ble_eq_true rfl) dX1_rules_29 ⟨Nat.zero_le _, Nat.zero_le _⟩ (fun r u' H locs hw hP hD hS => ?_)
            obtain ⟨rfl, rfl⟩ := hw
            have hP : va_P (dC, dI) is_cl (is_MW ha da (nI n, fb)) H := hP
            have hD : va_D A (is_MW ha da (nI n, fb)) := hD
            refine is_ti (nI (is_sup b n s0)) (by rw [Nat.mod_eq_of_lt ((show s0 < 256 by omega))]) ?_
            have hpos := is_of_pos hof
            refine lv_i2l (v := (nI (is_sup b n s0)).toInt64) hx hb dX1_rules_32 rfl ?_
            refine lv_lmul hx hb dX1_rules_33 ?_
            refine lv_lstore (lv' := [(5, .long (100 * ((nI (is_sup b n s0)).toInt64))), (4, .int (nI s0)), (3, .int acc), (0, .ref (ha 0)), (1, .int mm), (2, .int p1)]) hx hb dX1_rules_34 hl (by decide) rfl (fun ls hl => ?_)
            refine lv_iconst (v := nI 1) hx hb dX1_rules_36 (by decide) ?_
            refine lv_istore (lv' := [(7, .int (nI 1)), (5, .long (100 * ((nI (is_sup b n s0)).toInt64))), (4, .int (nI s0)), (3, .int acc), (0, .ref (ha 0)), (1, .int mm), (2, .int p1)]) hx hb dX1_rules_37 hl (by decide) rfl (fun ls hl => ?_)
            have li : ∀ (j2 : Nat) (x : Nat) (acc1 : Int32), s0 < x + j2 → x ≤ s0 → acc1 = acc + nI (fb_ct (is_rq b n s0 p1) x) → 0 < x → ∀ (H : Heap) (locs : List Loc) (ls : Array Slot), va_P (dC, dI) is_cl (is_MW ha da (nI n, fb)) H → va_D A (is_MW ha da (nI n, fb)) → va_S A s.heap H locs → lv_has ls 8 [(7, .int (nI x)), (5, .long (100 * (nI (is_sup b n s0)).toInt64)), (4, .int (nI s0)), (3, .int acc1), (0, .ref (ha 0)), (1, .int mm), (2, .int p1)] → W p l e (headSpec (ws_ yX1_rules cX1_rules 8 (some .int)) ({ frames := 2, cells := 0, slots := 0, locals := 46 })).room s m ([.ref (ha 0), .int mm, .int p1] : List Value).toArray below meth c H locs 0 0 (MQ below (va_Qi (fun (r : Int32) (u' : is_UM) => r = is_fld (is_of b n mm) (is_fR b n p1) 256 ∧ u' = (nI n, fb)) (is_B dC dI (is_MT da) (is_MW ha da) A) A) ([.ref (ha 0), .int mm, .int p1] : List Value).toArray s 0 0 A) (F0 m 39 ls []) := by
              intro j2
              induction j2 with
              | zero => intro x acc1 k1 k2 k3 k4; omega
              | succ j2 ihli =>
                intro x acc1 k1 k2 k3 k4 H locs ls hP hD hS hl
                have hle : x &&& s0 ≤ s0 := Nat.and_le_right
                refine lv_iload hx hb dX1_rules_39 (lv_at hl 0 rfl) ?_
                refine lv_iload hx hb dX1_rules_41 (lv_at hl 2 rfl) ?_
                refine is_icmp_ge (a := x) (b := s0) (tgt := 81) hx hb (by omega) (by omega) dX1_rules_43 (by decide) (fun hx2 => ?_) (fun hx2 => ?_)
                · refine lv_iinc (v := nI (s0 + 1)) (lv' := [(4, .int (nI (s0 + 1))), (7, .int (nI x)), (5, .long (100 * (nI (is_sup b n s0)).toInt64)), (3, .int acc1), (0, .ref (ha 0)), (1, .int mm), (2, .int p1)]) hx hb dX1_rules_81 hl (k := 2) rfl (is_inc s0) (by decide) rfl (fun ls hl => ?_)
                  refine lv_goto (tgt := 5) hx hb dX1_rules_84 (by decide) ?_
                  exact ihlo (s0 + 1) acc1 (by omega) (by omega) (by rw [is_fld_t hof, ← h3, k3, show x = s0 by omega]; rfl) _ _ _ hP hD hS (lv_sub hl [0, 3, 4, 5, 6] rfl)
                · refine lv_iload hx hb dX1_rules_46 (lv_at hl 0 rfl) ?_
                  refine lv_iload hx hb dX1_rules_48 (lv_at hl 2 rfl) ?_
                  refine lv_iand hx hb dX1_rules_50 ?_
                  refine is_ti (nI (x &&& s0)) (is_and _ _) ?_
                  refine lv_iload hx hb dX1_rules_51 (lv_at hl 0 rfl) ?_
                  refine is_icmp_ne (a := (x &&& s0)) (b := x) (tgt := 75) hx hb (by omega) (by omega) dX1_rules_53 (by decide) (fun c1 => ?_) (fun c1 => ?_)
                  · refine lv_iinc (v := nI (x + 1)) (lv' := [(7, .int (nI (x + 1))), (5, .long (100 * (nI (is_sup b n s0)).toInt64)), (4, .int (nI s0)), (3, .int acc1), (0, .ref (ha 0)), (1, .int mm), (2, .int p1)]) hx hb dX1_rules_75 hl (k := 0) rfl (is_inc x) (by decide) rfl (fun ls hl => ?_)
                    refine lv_goto (tgt := 39) hx hb dX1_rules_78 (by decide) ?_
                    exact ihli (x + 1) acc1 (by omega) (by omega) (by rw [k3, fb_ct_succ, is_rq_f c1]; rfl) (by omega) _ _ _ hP hD hS (lv_sub hl [0, 1, 2, 3, 4, 5, 6] rfl)
                  · refine lv_lload hx hb dX1_rules_56 (lv_at hl 1 rfl) ?_
                    refine lv_iload_n hx hb dX1_rules_58 rfl (lv_at hl 6 rfl) ?_
                    refine lv_i2l (v := p1.toInt64) hx hb dX1_rules_59 rfl ?_
                    refine lv_aload_n hx hb dX1_rules_60 rfl (lv_at hl 4 rfl) ?_
                    refine lv_iload hx hb dX1_rules_61 (lv_at hl 0 rfl) ?_
                    refine is_cVi (Wd := is_MW ha da) (u := (nI n, fb)) (As := [.int (nI x)]) (rest := [.long p1.toInt64, .long (100 * (nI (is_sup b n s0)).toInt64)]) (b := ha 0) ⟨hx, hb, hml, hown, hts⟩ (metX1_support l dC dI ha da _ b n fb hn hbk x (by have := (show x < 256 by omega); omega)) (cwV 1 hts (lw_V q154 q143 q144 q12 q145) rfl rfl rfl (by decide +kernel) ⟨Nat.le_of_ble_eq_true rfl, Nat.le_of_ble_eq_true rfl⟩) (va_recv hK hP (ci := 1) (q0 := 0) rfl rfl) hK hP hD hS hA rfl hl.1 rfl (Nat.le_of_ble_eq_true rfl) dX1_rules_63 ⟨Nat.zero_le _, Nat.zero_le _⟩ (fun r u' H locs hw hP hD hS => ?_)
                    obtain ⟨rfl, rfl⟩ := hw
                    have hP : va_P (dC, dI) is_cl (is_MW ha da (nI n, fb)) H := hP
                    have hD : va_D A (is_MW ha da (nI n, fb)) := hD
                    refine is_ti (nI (is_sup b n x)) (by rw [Nat.mod_eq_of_lt ((show x < 256 by omega))]) ?_
                    refine lv_i2l (v := (nI (is_sup b n x)).toInt64) hx hb dX1_rules_66 rfl ?_
                    refine lv_lmul hx hb dX1_rules_67 ?_
                    refine W.lcmp hx hb dX1_rules_68 ?_
                    refine lv_if_lt (tgt := 75) hx hb dX1_rules_69 (by decide) (fun c2 => ?_) (fun c2 => ?_)
                    · refine lv_iinc (v := nI (x + 1)) (lv' := [(7, .int (nI (x + 1))), (5, .long (100 * (nI (is_sup b n s0)).toInt64)), (4, .int (nI s0)), (3, .int acc1), (0, .ref (ha 0)), (1, .int mm), (2, .int p1)]) hx hb dX1_rules_75 hl (k := 0) rfl (is_inc x) (by decide) rfl (fun ls hl => ?_)
                      refine lv_goto (tgt := 39) hx hb dX1_rules_78 (by decide) ?_
                      exact ihli (x + 1) acc1 (by omega) (by omega) (by rw [k3, fb_ct_succ, is_rq_t (by omega) c1, show is_rt b n s0 p1 x = false from by unfold is_rt; rw [decide_eq_true (is_cmp.mp c2)]; rfl]; rfl) (by omega) _ _ _ hP hD hS (lv_sub hl [0, 1, 2, 3, 4, 5, 6] rfl)
                    · refine lv_iinc (v := acc1 + 1) (lv' := [(3, .int (acc1 + 1)), (7, .int (nI x)), (5, .long (100 * (nI (is_sup b n s0)).toInt64)), (4, .int (nI s0)), (0, .ref (ha 0)), (1, .int mm), (2, .int p1)]) hx hb dX1_rules_72 hl (k := 3) rfl (rfl) (by decide) rfl (fun ls hl => ?_)
                      refine lv_iinc (v := nI (x + 1)) (lv' := [(7, .int (nI (x + 1))), (3, .int (acc1 + 1)), (5, .long (100 * (nI (is_sup b n s0)).toInt64)), (4, .int (nI s0)), (0, .ref (ha 0)), (1, .int mm), (2, .int p1)]) hx hb dX1_rules_75 hl (k := 1) rfl (is_inc x) (by decide) rfl (fun ls hl => ?_)
                      refine lv_goto (tgt := 39) hx hb dX1_rules_78 (by decide) ?_
                      exact ihli (x + 1) _ (by omega) (by omega) (by rw [k3, fb_ct_succ, is_rq_t (by omega) c1, show is_rt b n s0 p1 x = true from by unfold is_rt; rw [decide_eq_false (fun q => c2 (is_cmp.mpr q))]; rfl]; exact is_acc1 _ _) (by omega) _ _ _ hP hD hS (lv_sub hl [0, 2, 3, 1, 4, 5, 6] rfl)
            exact li s0 1 acc (by omega) (by omega) (by rw [fb_ct_succ, is_rq_0]; exact (is_add0 acc).symm) (by omega) _ _ _ hP hD hS (lv_sub hl [0, 1, 2, 3, 4, 5, 6] rfl)
  exact lo 256 1 _ (by omega) (by omega) is_fld_1 _ _ _ hP hD hS (lv_sub hl [0, 1, 2, 3, 4] rfl)
end
section
/-! CONSTRUCTORS -/
set_option maxRecDepth 100000
set_option maxHeartbeats 4000000 in
set_option maxRecDepth 100000 in
/-- the constructor -/
theorem metX0_init (l : Launch) (dC : Nat → ClassId) (dI : Nat → Nat → Nat) (h0 sz : Nat) : Met l yX0_init (ws_ yX0_init cX0_init 1 none) ({ frames := 1, cells := 4, slots := 66, locals := 12 }) (is_P dC dI [] [(h0, .inr (0, [.int 0, .null, .int 0, .null, .int 0, .null, .null, .int 0]))] sz [.ref h0]) (va_Qv (fun u : (Nat → Nat) × (Nat → ClassId) => u.1 0 = h0) (fun (u : (Nat → Nat) × (Nat → ClassId)) (t : State) => va_P (dC, dI) is_cl (is_XW u.1 u.2 (nI 0, fun _ => 0, nI 0, fun _ => 0, nI 0, fun _ => 0, fun _ => 0, nI 0)) t.heap ∧ va_K (dC, dI) is_cl (is_XT u.2) t ∧ va_D (va_A [(h0, .inr (0, [.int 0, .null, .int 0, .null, .int 0, .null, .null, .int 0]))] sz) (is_XW u.1 u.2 (nI 0, fun _ => 0, nI 0, fun _ => 0, nI 0, fun _ => 0, fun _ => 0, nI 0))) (va_A [(h0, .inr (0, [.int 0, .null, .int 0, .null, .int 0, .null, .null, .int 0]))] sz)) 4 66 (va_A [(h0, .inr (0, [.int 0, .null, .int 0, .null, .int 0, .null, .null, .int 0]))] sz) := by
  refine Met.ofW (cc := cX0_init) (maxL := 1) (ret := none) (by decide) rfl ?_
  intro p e s m args below meth c s₁ B hml hv
  obtain ⟨rfl, hsz, hP, hK, hD0⟩ := hv
  have hx := B.exec
  have hb := B.bytes
  have hr := B.returns
  have hts := atoms_spec (ws := (ws_ yX0_init cX0_init 1 none)) B.pre
  have hts : ∀ w ∈ lw_all, w.before _ s = true := fun w h => hts w (List.mem_cons_of_mem _ h)
  have hown : s.vm.findClass RX0 = some m.cls := findClass_of_methodNamed B.named
  have hlocks := B.notSynchronized
  have hin : meth.name = "<init>" := (name_of_methodNamed B.named B.method).1
  subst hsz
  have hD := hD0.self (sz := s.heap.size)
  generalize hAe : va_A [(h0, .inr (0, [.int 0, .null, .int 0, .null, .int 0, .null, .null, .int 0]))] s.heap.size = A at hD ⊢
  have hA : ∀ q : Nat, s.heap.size ≤ q → A q := fun q h => by rw [← hAe]; exact Or.inr h
  have hS : va_S A s.heap s.heap [] := va_S.rf
  have hl := lv_entry ([.ref h0]) (n := 1) (Nat.le_of_ble_eq_true rfl)
  rw [lg_entry_eq]
  generalize (lg_sl ([.ref h0]) ++ List.replicate (1 - (lg_sl ([.ref h0])).length) Slot.unset).toArray = ls at hl ⊢
  have hl : lv_has ls 1 [(0, .ref h0)] := hl
  refine lv_aload_n hx hb dX0_init_0 rfl (lv_at hl 0 rfl) ?_
  refine W.objInit hx hb hown (hts _ q18) (hts _ q19) (hts _ q20) rfl (by rw [hml]; exact hl.1) rfl dX0_init_1 (Nat.le_of_ble_eq_true rfl) (Nat.le_of_ble_eq_true rfl) ?_
  refine W.eq (g2 := F0 m 4 ls []) rfl ?_
  refine lv_aload_n hx hb dX0_init_4 rfl (lv_at hl 0 rfl) ?_
  refine lv_bipush (v := nI 40) hx hb dX0_init_5 (by decide) ?_
  refine va_newa (atype := .int) hx hb (hts _ q46) (ty := .int) rfl hK hP hD hS hA (N' := 40) (a0 := (40, .inl (fun _ => 0))) (fun _ => rfl) (by decide) (by decide) (by decide) (Nat.le_of_ble_eq_true rfl) (Nat.le_of_ble_eq_true rfl) dX0_init_7 (fun q1 d1 H hK hP hD hS => ?_)
  have hP : va_P (dC, dI) is_cl [(h0, .inr (0, [.int 0, .null, .int 0, .null, .int 0, .null, .null, .int 0])), (q1, .inl (d1, 40, .inl (fun _ => 0)))] H := hP
  have hD : va_D A [(h0, .inr (0, [.int 0, .null, .int 0, .null, .int 0, .null, .null, .int 0])), (q1, .inl (d1, 40, .inl (fun _ => 0)))] := hD
  have hK : va_K (dC, dI) is_cl [(d1, .int)] s := hK
  refine W.widen (k := 1) (n := 40) (by omega) (by omega) ?_
  refine va_putF (D := (dC, dI)) (ci := 0) (v := .ref q1) (ty := .array .int) (C := RX0) (T := TX0) (N := 8) hx hb hts in_X0 tyX0 tyX0_ok nmX0 hown hK hP hD hS 0 rfl rfl 1 (by decide) (hts _ q22) (fun _ h9 => h9) rfl hin rfl (by decide +kernel) rfl rfl (Nat.le_of_ble_eq_true rfl) dX0_init_9 (fun H locs hP hD hS => ?_)
  have hP : va_P (dC, dI) is_cl [(h0, .inr (0, [.int 0, .ref q1, .int 0, .null, .int 0, .null, .null, .int 0])), (q1, .inl (d1, 40, .inl (fun _ => 0)))] H := hP
  have hD : va_D A [(h0, .inr (0, [.int 0, .ref q1, .int 0, .null, .int 0, .null, .null, .int 0])), (q1, .inl (d1, 40, .inl (fun _ => 0)))] := hD
  refine lv_aload_n hx hb dX0_init_12 rfl (lv_at hl 0 rfl) ?_
  refine lv_bipush (v := nI 8) hx hb dX0_init_13 (by decide) ?_
  refine va_newa (atype := .long) hx hb (hts _ q47) (ty := .long) rfl hK hP hD hS hA (N' := 8) (a0 := (8, .inr (.inl (fun _ => 0)))) (fun _ => rfl) (by decide) (by decide) (by decide) (Nat.le_of_ble_eq_true rfl) (Nat.le_of_ble_eq_true rfl) dX0_init_15 (fun q2 d2 H hK hP hD hS => ?_)
  have hP : va_P (dC, dI) is_cl [(h0, .inr (0, [.int 0, .ref q1, .int 0, .null, .int 0, .null, .null, .int 0])), (q1, .inl (d1, 40, .inl (fun _ => 0))), (q2, .inl (d2, 8, .inr (.inl (fun _ => 0))))] H := hP
  have hD : va_D A [(h0, .inr (0, [.int 0, .ref q1, .int 0, .null, .int 0, .null, .null, .int 0])), (q1, .inl (d1, 40, .inl (fun _ => 0))), (q2, .inl (d2, 8, .inr (.inl (fun _ => 0))))] := hD
  have hK : va_K (dC, dI) is_cl [(d1, .int), (d2, .long)] s := hK
  refine W.widen (k := 2) (n := 48) (by omega) (by omega) ?_
  refine va_putF (D := (dC, dI)) (ci := 0) (v := .ref q2) (ty := .array .long) (C := RX0) (T := TX0) (N := 8) hx hb hts in_X0 tyX0 tyX0_ok nmX0 hown hK hP hD hS 0 rfl rfl 3 (by decide) (hts _ q24) (fun _ h9 => h9) rfl hin rfl (by decide +kernel) rfl rfl (Nat.le_of_ble_eq_true rfl) dX0_init_17 (fun H locs hP hD hS => ?_)
  have hP : va_P (dC, dI) is_cl [(h0, .inr (0, [.int 0, .ref q1, .int 0, .ref q2, .int 0, .null, .null, .int 0])), (q1, .inl (d1, 40, .inl (fun _ => 0))), (q2, .inl (d2, 8, .inr (.inl (fun _ => 0))))] H := hP
  have hD : va_D A [(h0, .inr (0, [.int 0, .ref q1, .int 0, .ref q2, .int 0, .null, .null, .int 0])), (q1, .inl (d1, 40, .inl (fun _ => 0))), (q2, .inl (d2, 8, .inr (.inl (fun _ => 0))))] := hD
  refine lv_aload_n hx hb dX0_init_20 rfl (lv_at hl 0 rfl) ?_
  refine lv_bipush (v := nI 9) hx hb dX0_init_21 (by decide) ?_
  refine va_newa (atype := .long) hx hb (hts _ q47) (ty := .long) rfl hK hP hD hS hA (N' := 9) (a0 := (9, .inr (.inl (fun _ => 0)))) (fun _ => rfl) (by decide) (by decide) (by decide) (Nat.le_of_ble_eq_true rfl) (Nat.le_of_ble_eq_true rfl) dX0_init_23 (fun q3 d3 H hK hP hD hS => ?_)
  have hP : va_P (dC, dI) is_cl [(h0, .inr (0, [.int 0, .ref q1, .int 0, .ref q2, .int 0, .null, .null, .int 0])), (q1, .inl (d1, 40, .inl (fun _ => 0))), (q2, .inl (d2, 8, .inr (.inl (fun _ => 0)))), (q3, .inl (d3, 9, .inr (.inl (fun _ => 0))))] H := hP
  have hD : va_D A [(h0, .inr (0, [.int 0, .ref q1, .int 0, .ref q2, .int 0, .null, .null, .int 0])), (q1, .inl (d1, 40, .inl (fun _ => 0))), (q2, .inl (d2, 8, .inr (.inl (fun _ => 0)))), (q3, .inl (d3, 9, .inr (.inl (fun _ => 0))))] := hD
  have hK : va_K (dC, dI) is_cl [(d1, .int), (d2, .long), (d3, .long)] s := hK
  refine W.widen (k := 3) (n := 57) (by omega) (by omega) ?_
  refine va_putF (D := (dC, dI)) (ci := 0) (v := .ref q3) (ty := .array .long) (C := RX0) (T := TX0) (N := 8) hx hb hts in_X0 tyX0 tyX0_ok nmX0 hown hK hP hD hS 0 rfl rfl 5 (by decide) (hts _ q26) (fun _ h9 => h9) rfl hin rfl (by decide +kernel) rfl rfl (Nat.le_of_ble_eq_true rfl) dX0_init_25 (fun H locs hP hD hS => ?_)
  have hP : va_P (dC, dI) is_cl [(h0, .inr (0, [.int 0, .ref q1, .int 0, .ref q2, .int 0, .ref q3, .null, .int 0])), (q1, .inl (d1, 40, .inl (fun _ => 0))), (q2, .inl (d2, 8, .inr (.inl (fun _ => 0)))), (q3, .inl (d3, 9, .inr (.inl (fun _ => 0))))] H := hP
  have hD : va_D A [(h0, .inr (0, [.int 0, .ref q1, .int 0, .ref q2, .int 0, .ref q3, .null, .int 0])), (q1, .inl (d1, 40, .inl (fun _ => 0))), (q2, .inl (d2, 8, .inr (.inl (fun _ => 0)))), (q3, .inl (d3, 9, .inr (.inl (fun _ => 0))))] := hD
  refine lv_aload_n hx hb dX0_init_28 rfl (lv_at hl 0 rfl) ?_
  refine lv_bipush (v := nI 9) hx hb dX0_init_29 (by decide) ?_
  refine va_newa (atype := .int) hx hb (hts _ q46) (ty := .int) rfl hK hP hD hS hA (N' := 9) (a0 := (9, .inl (fun _ => 0))) (fun _ => rfl) (by decide) (by decide) (by decide) (Nat.le_of_ble_eq_true rfl) (Nat.le_of_ble_eq_true rfl) dX0_init_31 (fun q4 d4 H hK hP hD hS => ?_)
  have hP : va_P (dC, dI) is_cl [(h0, .inr (0, [.int 0, .ref q1, .int 0, .ref q2, .int 0, .ref q3, .null, .int 0])), (q1, .inl (d1, 40, .inl (fun _ => 0))), (q2, .inl (d2, 8, .inr (.inl (fun _ => 0)))), (q3, .inl (d3, 9, .inr (.inl (fun _ => 0)))), (q4, .inl (d4, 9, .inl (fun _ => 0)))] H := hP
  have hD : va_D A [(h0, .inr (0, [.int 0, .ref q1, .int 0, .ref q2, .int 0, .ref q3, .null, .int 0])), (q1, .inl (d1, 40, .inl (fun _ => 0))), (q2, .inl (d2, 8, .inr (.inl (fun _ => 0)))), (q3, .inl (d3, 9, .inr (.inl (fun _ => 0)))), (q4, .inl (d4, 9, .inl (fun _ => 0)))] := hD
  have hK : va_K (dC, dI) is_cl [(d1, .int), (d2, .long), (d3, .long), (d4, .int)] s := hK
  refine W.widen (k := 4) (n := 66) (by omega) (by omega) ?_
  refine va_putF (D := (dC, dI)) (ci := 0) (v := .ref q4) (ty := .array .int) (C := RX0) (T := TX0) (N := 8) hx hb hts in_X0 tyX0 tyX0_ok nmX0 hown hK hP hD hS 0 rfl rfl 6 (by decide) (hts _ q27) (fun _ h9 => h9) rfl hin rfl (by decide +kernel) rfl rfl (Nat.le_of_ble_eq_true rfl) dX0_init_33 (fun H locs hP hD hS => ?_)
  have hP : va_P (dC, dI) is_cl [(h0, .inr (0, [.int 0, .ref q1, .int 0, .ref q2, .int 0, .ref q3, .ref q4, .int 0])), (q1, .inl (d1, 40, .inl (fun _ => 0))), (q2, .inl (d2, 8, .inr (.inl (fun _ => 0)))), (q3, .inl (d3, 9, .inr (.inl (fun _ => 0)))), (q4, .inl (d4, 9, .inl (fun _ => 0)))] H := hP
  have hD : va_D A [(h0, .inr (0, [.int 0, .ref q1, .int 0, .ref q2, .int 0, .ref q3, .ref q4, .int 0])), (q1, .inl (d1, 40, .inl (fun _ => 0))), (q2, .inl (d2, 8, .inr (.inl (fun _ => 0)))), (q3, .inl (d3, 9, .inr (.inl (fun _ => 0)))), (q4, .inl (d4, 9, .inl (fun _ => 0)))] := hD
  exact W.vret hx hb hr (fun t ht hW => ⟨⟨((fun k => match k with | 0 => h0 | 1 => q1 | 2 => q2 | 3 => q3 | _ => q4), (fun k => match k with | 1 => d1 | 2 => d2 | 3 => d3 | _ => d4)), rfl, rfl, by rw [ht]; exact hP, va_K.moved hW.alike hK, hD⟩, hS.F ht⟩) hS.2.2 dX0_init_36
set_option maxHeartbeats 4000000 in
set_option maxRecDepth 100000 in
/-- the constructor -/
theorem metX1_init (l : Launch) (dC : Nat → ClassId) (dI : Nat → Nat → Nat) (h0 sz : Nat) : Met l yX1_init (ws_ yX1_init cX1_init 1 none) ({ frames := 1, cells := 1, slots := 40, locals := 12 }) (is_P dC dI [] [(h0, .inr (1, [.int 0, .null]))] sz [.ref h0]) (va_Qv (fun u : (Nat → Nat) × (Nat → ClassId) => u.1 0 = h0) (fun (u : (Nat → Nat) × (Nat → ClassId)) (t : State) => va_P (dC, dI) is_cl (is_MW u.1 u.2 (nI 0, fun _ => 0)) t.heap ∧ va_K (dC, dI) is_cl (is_MT u.2) t ∧ va_D (va_A [(h0, .inr (1, [.int 0, .null]))] sz) (is_MW u.1 u.2 (nI 0, fun _ => 0))) (va_A [(h0, .inr (1, [.int 0, .null]))] sz)) 1 40 (va_A [(h0, .inr (1, [.int 0, .null]))] sz) := by
  refine Met.ofW (cc := cX1_init) (maxL := 1) (ret := none) (by decide) rfl ?_
  intro p e s m args below meth c s₁ B hml hv
  obtain ⟨rfl, hsz, hP, hK, hD0⟩ := hv
  have hx := B.exec
  have hb := B.bytes
  have hr := B.returns
  have hts := atoms_spec (ws := (ws_ yX1_init cX1_init 1 none)) B.pre
  have hts : ∀ w ∈ lw_all, w.before _ s = true := fun w h => hts w (List.mem_cons_of_mem _ h)
  have hown : s.vm.findClass RX1 = some m.cls := findClass_of_methodNamed B.named
  have hlocks := B.notSynchronized
  have hin : meth.name = "<init>" := (name_of_methodNamed B.named B.method).1
  subst hsz
  have hD := hD0.self (sz := s.heap.size)
  generalize hAe : va_A [(h0, .inr (1, [.int 0, .null]))] s.heap.size = A at hD ⊢
  have hA : ∀ q : Nat, s.heap.size ≤ q → A q := fun q h => by rw [← hAe]; exact Or.inr h
  have hS : va_S A s.heap s.heap [] := va_S.rf
  have hl := lv_entry ([.ref h0]) (n := 1) (Nat.le_of_ble_eq_true rfl)
  rw [lg_entry_eq]
  generalize (lg_sl ([.ref h0]) ++ List.replicate (1 - (lg_sl ([.ref h0])).length) Slot.unset).toArray = ls at hl ⊢
  have hl : lv_has ls 1 [(0, .ref h0)] := hl
  refine lv_aload_n hx hb dX1_init_0 rfl (lv_at hl 0 rfl) ?_
  refine W.objInit hx hb hown (hts _ q126) (hts _ q19) (hts _ q20) rfl (by rw [hml]; exact hl.1) rfl dX1_init_1 (Nat.le_of_ble_eq_true rfl) (Nat.le_of_ble_eq_true rfl) ?_
  refine W.eq (g2 := F0 m 4 ls []) rfl ?_
  refine lv_aload_n hx hb dX1_init_4 rfl (lv_at hl 0 rfl) ?_
  refine lv_bipush (v := nI 40) hx hb dX1_init_5 (by decide) ?_
  refine va_newa (atype := .int) hx hb (hts _ q46) (ty := .int) rfl hK hP hD hS hA (N' := 40) (a0 := (40, .inl (fun _ => 0))) (fun _ => rfl) (by decide) (by decide) (by decide) (Nat.le_of_ble_eq_true rfl) (Nat.le_of_ble_eq_true rfl) dX1_init_7 (fun q1 d1 H hK hP hD hS => ?_)
  have hP : va_P (dC, dI) is_cl [(h0, .inr (1, [.int 0, .null])), (q1, .inl (d1, 40, .inl (fun _ => 0)))] H := hP
  have hD : va_D A [(h0, .inr (1, [.int 0, .null])), (q1, .inl (d1, 40, .inl (fun _ => 0)))] := hD
  have hK : va_K (dC, dI) is_cl [(d1, .int)] s := hK
  refine W.widen (k := 1) (n := 40) (by omega) (by omega) ?_
  refine va_putF (D := (dC, dI)) (ci := 1) (v := .ref q1) (ty := .array .int) (C := RX1) (T := TX1) (N := 2) hx hb hts in_X1 tyX1 tyX1_ok nmX1 hown hK hP hD hS 0 rfl rfl 1 (by decide) (hts _ q128) (fun _ h9 => h9) rfl hin rfl (by decide +kernel) rfl rfl (Nat.le_of_ble_eq_true rfl) dX1_init_9 (fun H locs hP hD hS => ?_)
  have hP : va_P (dC, dI) is_cl [(h0, .inr (1, [.int 0, .ref q1])), (q1, .inl (d1, 40, .inl (fun _ => 0)))] H := hP
  have hD : va_D A [(h0, .inr (1, [.int 0, .ref q1])), (q1, .inl (d1, 40, .inl (fun _ => 0)))] := hD
  exact W.vret hx hb hr (fun t ht hW => ⟨⟨((fun k => match k with | 0 => h0 | _ => q1), (fun _ => d1)), rfl, rfl, by rw [ht]; exact hP, va_K.moved hW.alike hK, hD⟩, hS.F ht⟩) hS.2.2 dX1_init_12
end
section
set_option maxRecDepth 100000
/-! THE CLAIM OUT OF ONE WALK OF THE LAW'S BODY. Your part is whole_start (and what it stands on); all else here is the same for every law, but numbers. -/
def R_law : String := "ItemSetsLaw"
def lw_P (b : Addr) (xs : List Int32) (args : Array Value) (s : State) : Prop := args = #[.ref b] ∧ s.IntsAt b xs ∧ xs.length ≤ 192 ∧ (Jvm.Cond.and given_1 narrow_1).before args s = true
def lw_Q (_ : Array Value) (s : State) (o : Outcome) (t : State) : Prop := o = .returned (some (.int 1)) ∧ Framed s o t [] 600000 7290000
def lw_Z (below : List Frame) (a : Array Value) (s : State) : State → Prop := fun t => ∃ o, t.status = .running ∧ Ended t below o ∧ lw_Q a s o t
/-- the law's own end, with 1 on the stack, nothing written that was there before, its room as the claim has it -/
theorem lw_ret {p : Program} {l : Launch} {e : Env} {s : State} {m : MethodId} {below : List Frame} {meth : Method} {c : Code} {b : Nat} (hx : p.tables.exec = Jvm.exec) (hb : c.code = code) (hr : meth.sig.returnType = ret) (hlocks : meth.locks = false) {pc : Nat} {H : Heap} {ls : Array Slot} (hdg : decode code pc = .ok (.ireturn, 1)) : W p l e room_1 s m #[Value.ref b] below meth c H [] 600000 7290000 (lw_Z below #[Value.ref b] s) (F0 m pc ls [.int 1]) := by
  intro T hT X
  obtain ⟨fs, hret, hrun, hended, hW, hframe⟩ := X.leave (v := some (.int 1)) (hlocks := hlocks) (fun h => by rw [hr] at h; cases h)
  have hmeth' : T.vm.method? m = some meth := X.method'
  refine ⟨T.setFrames fs, ?_, .returned (some (.int 1)), hrun, hended, rfl, ⟨_, rfl⟩, hW, hframe⟩
  jvm_step X.here [X.here.top, hx, hb, hdg, hmeth', hr, ret, narrow_b1]
  (try refine ⟨rfl, ?_⟩); (try refine ⟨rfl, ?_⟩)
  first | (intro acts; rw [hret _ acts rfl rfl rfl]) | rw [hret _ _ rfl rfl rfl]
  exact Steps.refl _
/-- what holds at the law's entry: the machine, the code, the tables' words (any of lw_tbl by 'hts w (by decide +kernel)'), the script of L ints xs at the cell b, what the Statement gives of the start (any of its parts by flat_of_before) -/
def lw_At (p : Program) (s : State) (m : MethodId) (meth : Method) (c : Code) (b L : Nat) (xs : Nat → Int32) : Prop :=
  p.tables.exec = Jvm.exec ∧ c.code = code ∧ meth.sig.returnType = ret ∧ c.maxLocals = 4 ∧ s.vm.findClass R_law = some m.cls ∧ (∀ w ∈ lw_tbl, w.before #[Value.ref b] s = true) ∧ va_X b L xs s s.heap ∧ b < s.heap.size ∧ meth.locks = false ∧ (Jvm.Cond.and given_1 narrow_1).before #[Value.ref b] s = true
end
section
/-! THE LAW's LOOP -/
set_option maxRecDepth 100000
section ISL
variable {p : Program} {l : Launch} {e : Env} {R : Room} {s : State} {m : MethodId} {args : Array Value} {below : List Frame} {meth : Method} {c : Code} {H : Heap} {locs : List Loc} {cells slots : Nat} {Q : State → Prop}
variable {cc : ByteArray} {pc : Nat} {ls : Array Slot} {rest : List Value} {A : Nat → Prop} {H0 : Heap}
theorem is_sld (hexec : p.tables.exec = Jvm.exec) (hb : c.code = cc) {b L : Nat} {xs : Nat → Int32} (hX : va_X b L xs s H0) (hbl : b < H0.size) (hbA : ¬ A b) (hS : va_S A H0 H locs) {i : Nat} (hi : i < L) (hL : L < 2 ^ 31) (hdg : decode cc pc = .ok (.iaload, 1)) (kk : W p l e R s m args below meth c H locs cells slots Q (F0 m (pc + 1) ls (.int (xs i) :: rest))) : W p l e R s m args below meth c H locs cells slots Q (F0 m pc ls (.int (nI i) :: .ref b :: rest)) := va_sld hexec hb hX hbl hbA hS (vp_in_nI hi hL) hdg (by rw [nI_clamp (by omega)]; exact kk)
end ISL
/-- both hold the same baskets -/
def is_LI (u : is_US) (v : is_UM) : Prop := ∃ (n : Nat) (bk : Nat → Nat) (fb : Nat → Int32) (so : Int32) (fl : Nat → Int64) (st : Int32) (fo : Nat → Int64) (fc : Nat → Int32) (dp : Int32) (gb : Nat → Int32), n ≤ 40 ∧ is_Bk fb n bk ∧ is_So bk n so fl ∧ is_Bk gb n bk ∧ u = (nI n, fb, so, fl, st, fo, fc, dp) ∧ v = (nI n, gb)
theorem is_Bk_add {fb : Nat → Int32} {n x : Nat} {bk : Nat → Nat} (h : is_Bk fb n bk) (hx : x < 256) : is_Bk (upd fb n (nI x)) (n + 1) (fun k => if k = n then x else bk k) := by
  intro k hk
  by_cases e : k = n
  · subst e
    simp only [if_true]
    exact ⟨pk_us, hx⟩
  · simp only [if_neg e]
    rw [pk_un e]
    exact h k (by omega)
theorem is_Bk_dr {fb : Nat → Int32} {n j : Nat} {bk : Nat → Nat} (h : is_Bk fb n bk) : is_Bk (is_dr fb j (n - 1)) (n - 1) (fun k => if j ≤ k ∧ k < n - 1 then bk (k + 1) else bk k) := by
  intro k hk
  unfold is_dr
  by_cases e : j ≤ k ∧ k < n - 1
  · simp only [if_pos e]
    exact h (k + 1) (by omega)
  · simp only [if_neg e]
    exact h k (by omega)
theorem is_st_add {n : Nat} {bk : Nat → Nat} {fb : Nat → Int32} {so : Int32} {fl : Nat → Int64} {st : Int32} {fo : Nat → Int64} {fc : Nat → Int32} {dp : Int32} {gb : Nat → Int32} {v : Nat} {r1 r2 : Int32} {u1 : is_US} {v1 : is_UM} (hn : n ≤ 40) (hbk : is_Bk fb n bk) (hso : is_So bk n so fl) (hgk : is_Bk gb n bk)
    (h1 : (n < 40 ∧ r1 = nI (n + 1) ∧ u1 = (nI (n + 1), upd fb n (nI (v % 256)), nI 0, fl, st, fo, fc, dp)) ∨ (n = 40 ∧ r1 = -1 ∧ u1 = (nI n, fb, so, fl, st, fo, fc, dp))) (h2 : (n < 40 ∧ r2 = nI (n + 1) ∧ v1 = (nI (n + 1), upd gb n (nI (v % 256)))) ∨ (n = 40 ∧ r2 = -1 ∧ v1 = (nI n, gb))) : r1 = r2 ∧ is_LI u1 v1 := by
  rcases h1 with ⟨a1, a2, a3⟩ | ⟨a1, a2, a3⟩
  · rcases h2 with ⟨c1, c2, c3⟩ | ⟨c1, c2, c3⟩
    · exact ⟨by rw [a2, c2], n + 1, _, _, _, _, _, _, _, _, _, by omega, is_Bk_add hbk (Nat.mod_lt _ (by decide)), Or.inl rfl, is_Bk_add hgk (Nat.mod_lt _ (by decide)), a3, c3⟩
    · omega
  · rcases h2 with ⟨c1, c2, c3⟩ | ⟨c1, c2, c3⟩
    · omega
    · exact ⟨by rw [a2, c2], n, bk, fb, so, fl, st, fo, fc, dp, gb, hn, hbk, hso, hgk, a3, c3⟩
theorem is_LI_sorted {n : Nat} {bk : Nat → Nat} {fb : Nat → Int32} {st : Int32} {fo : Nat → Int64} {fc : Nat → Int32} {dp : Int32} {gb : Nat → Int32} {u1 : is_US} {v1 : is_UM} (hn : n ≤ 40) (hbk : is_Bk fb n bk) (hgk : is_Bk gb n bk) (h1 : ∃ fl' : Nat → Int64, is_Lk bk n fl' ∧ u1 = (nI n, fb, nI 1, fl', st, fo, fc, dp)) (h2 : v1 = (nI n, gb)) : is_LI u1 v1 := by
  obtain ⟨fl', hLk, rfl⟩ := h1
  exact ⟨n, bk, fb, nI 1, fl', st, fo, fc, dp, gb, hn, hbk, Or.inr ⟨rfl, hLk⟩, hgk, rfl, h2⟩
theorem is_LI_fin {n : Nat} {bk : Nat → Nat} {fb gb : Nat → Int32} {u1 : is_US} {v1 : is_UM} (hn : n ≤ 40) (hbk : is_Bk fb n bk) (hgk : is_Bk gb n bk) (h1 : is_Fin bk n fb u1) (h2 : v1 = (nI n, gb)) : is_LI u1 v1 := by
  obtain ⟨fl', st, fo, fc, dp, hLk, rfl⟩ := h1
  exact ⟨n, bk, fb, nI 1, fl', st, fo, fc, dp, gb, hn, hbk, Or.inr ⟨rfl, hLk⟩, hgk, rfl, h2⟩
set_option maxHeartbeats 4000000 in
/-- the law's loop at its head: i ints are read -/
theorem law_loop {p : Program} {e : Env} {s : State} {m : MethodId} {below : List Frame} {meth : Method} {c : Code} (l : Launch) {b L : Nat} {xs : Nat → Int32} (hL : L ≤ 192) (C0 : lw_At p s m meth c b L xs) (dC : Nat → ClassId) (dI : Nat → Nat → Nat) (hxa hma : Nat → Nat) (dx dm : Nat → ClassId) (hKx : va_K (dC, dI) is_cl (is_XT dx) s) (hKm : va_K (dC, dI) is_cl (is_MT dm) s) :
    ∀ (j i : Nat) (u : is_US) (v : is_UM), L < i + j → i ≤ L → is_LI u v → ∀ (H : Heap) (locs : List Loc) (ls : Array Slot), va_P (dC, dI) is_cl (is_XW hxa dx u) H → va_P (dC, dI) is_cl (is_MW hma dm v) H → va_D (fun q : Nat => s.heap.size ≤ q) (is_XW hxa dx u ++ is_MW hma dm v) → va_S (fun q : Nat => s.heap.size ≤ q) s.heap H locs → lv_has ls 4 [(3, .int (nI i)), (2, .ref (hma 0)), (1, .ref (hxa 0)), (0, .ref b)] → W p l e room_1 s m #[Value.ref b] below meth c H locs 7 116 (lw_Z below #[Value.ref b] s) (F0 m 18 ls []) := by
  obtain ⟨hx, hb, hr, hml, hown, hts0, hX, hbl, hlocks, hgv⟩ := id C0
  have hts : ∀ w ∈ lw_all, w.before #[Value.ref b] s = true := fun w h => hts0 w (lw_all_tbl h)
  have hA : ∀ q : Nat, s.heap.size ≤ q → (fun q : Nat => s.heap.size ≤ q) q := fun _ h => h
  have hbA : ¬ (fun q : Nat => s.heap.size ≤ q) b := Nat.not_le.mpr hbl
  intro j
  induction j with
  | zero => intro i u v h1 h2; omega
  | succ j ih =>
    intro i u v h1 h2 hI H locs ls hP hR hD hS hl
    obtain ⟨n, bk, fb, so, fl, st, fo, fc, dp, gb, hn, hbk, hso, hgk, rfl, rfl⟩ := hI
    refine lv_iload_n hx hb dL_law_18 rfl (lv_at hl 0 rfl) ?_
    refine lv_aload_n hx hb dL_law_19 rfl (lv_at hl 3 rfl) ?_
    refine va_slen hx hb hX hbl hbA hS dL_law_20 ?_
    refine is_ti (nI L) rfl ?_
    refine lv_iconst (v := nI 3) hx hb dL_law_21 (by decide) ?_
    refine lv_isub hx hb dL_law_22 ?_
    refine lv_icmp_gt (tgt := 344) hx hb dL_law_23 (by decide) (fun hc => ?_) (fun hc => ?_)
    · refine lv_iconst (v := 1) hx hb dL_law_344 (by decide) ?_
      refine va_forget (fun q hq => hS.2.2 q hq) ?_
      refine W.widen (k := 600000) (n := 7290000) (by decide) (by decide) ?_
      exact lw_ret hx hb hr hlocks dL_law_345
    · have hi3 : i + 3 ≤ L := by
        rw [Int32.lt_iff_toInt_lt, pk_sub_toInt (by omega) (by decide), nI_toInt (by omega)] at hc
        omega
      refine lv_aload_n hx hb dL_law_26 rfl (lv_at hl 3 rfl) ?_
      refine lv_iload_n hx hb dL_law_27 rfl (lv_at hl 0 rfl) ?_
      refine is_sld (i := i) hx hb hX hbl hbA hS (by omega) (by omega) dL_law_28 ?_
      refine lv_bipush (v := nI 15) hx hb dL_law_29 (by decide) ?_
      refine lv_iand hx hb dL_law_31 ?_
      obtain ⟨sw, hsw, esw⟩ := pk_andE (xs i) (m := nI 15) 4 (by decide)
      rw [show (2 : Nat) ^ 4 = 16 from rfl] at hsw
      refine is_ti (nI sw) (esw) ?_
      clear esw
      have hsw2 : sw = 0 ∨ sw = 1 ∨ sw = 2 ∨ sw = 3 ∨ sw = 4 ∨ sw = 5 ∨ sw = 6 ∨ sw = 7 ∨ sw = 8 ∨ sw = 9 ∨ 10 ≤ sw := by omega
      rcases hsw2 with rfl | rfl | rfl | rfl | rfl | rfl | rfl | rfl | rfl | rfl | hsw2
      · refine lv_tableIn (off := 56) (tgt := 88) hx hb dL_law_32 (by decide) (by decide) (by decide) (by decide) ?_
        obtain ⟨v, hv, ev⟩ := is_of32 (xs (i + 1))
        refine lv_aload_n hx hb dL_law_88 rfl (lv_at hl 2 rfl) ?_
        refine lv_aload_n hx hb dL_law_89 rfl (lv_at hl 3 rfl) ?_
        refine lv_iload_n hx hb dL_law_90 rfl (lv_at hl 0 rfl) ?_
        refine lv_iconst (v := nI 1) hx hb dL_law_91 (by decide) ?_
        refine lv_iadd hx hb dL_law_92 ?_
        refine is_ti (nI (i + 1)) (nI_add i 1) ?_
        refine is_sld (i := (i + 1)) hx hb hX hbl hbA hS (by omega) (by omega) dL_law_93 ?_
        refine is_ti (nI v) (ev) ?_
        refine is_cLi (Wd := is_XW hxa dx) (u := (nI n, fb, so, fl, st, fo, fc, dp)) (wr := is_MW hma dm (nI n, gb)) (As := [.int (nI v)]) (rest := []) (b := hxa 0) ⟨hx, hb, hml, hown, hts⟩ (metX0_add l dC dI hxa dx _ n fb so fl st fo fc dp hn v hv) (cwV 1 hts (lw_V q48 q49 q50 q11 q51) rfl rfl rfl (by decide +kernel) ⟨Nat.le_of_ble_eq_true rfl, Nat.le_of_ble_eq_true rfl⟩) (va_recv hKx hP (ci := 0) (q0 := 0) rfl rfl) hKx hP hR hD hS hA rfl hl.1 rfl (Nat.le_of_ble_eq_true rfl) dL_law_94 ⟨Nat.le_of_ble_eq_true rfl, Nat.le_of_ble_eq_true rfl⟩ (fun r1 u1 H locs hw1 hP hR hD hS => ?_)
        refine lv_aload_n hx hb dL_law_97 rfl (lv_at hl 1 rfl) ?_
        refine lv_aload_n hx hb dL_law_98 rfl (lv_at hl 3 rfl) ?_
        refine lv_iload_n hx hb dL_law_99 rfl (lv_at hl 0 rfl) ?_
        refine lv_iconst (v := nI 1) hx hb dL_law_100 (by decide) ?_
        refine lv_iadd hx hb dL_law_101 ?_
        refine is_ti (nI (i + 1)) (nI_add i 1) ?_
        refine is_sld (i := (i + 1)) hx hb hX hbl hbA hS (by omega) (by omega) dL_law_102 ?_
        refine is_ti (nI v) (ev) ?_
        have hD2 : va_D (fun q : Nat => s.heap.size ≤ q) (is_MW hma dm (nI n, gb) ++ is_XW hxa dx u1) := hD.sub [5, 6, 0, 1, 2, 3, 4] (by decide) rfl
        refine is_cLi (Wd := is_MW hma dm) (u := (nI n, gb)) (wr := is_XW hxa dx u1) (As := [.int (nI v)]) (rest := [.int r1]) (b := hma 0) ⟨hx, hb, hml, hown, hts⟩ (metX1_add l dC dI hma dm _ n gb hn v hv) (cwV 1 hts (lw_V q134 q135 q136 q12 q137) rfl rfl rfl (by decide +kernel) ⟨Nat.le_of_ble_eq_true rfl, Nat.le_of_ble_eq_true rfl⟩) (va_recv hKm hR (ci := 1) (q0 := 0) rfl rfl) hKm hR hP hD2 hS hA rfl hl.1 rfl (Nat.le_of_ble_eq_true rfl) dL_law_103 ⟨Nat.le_of_ble_eq_true rfl, Nat.le_of_ble_eq_true rfl⟩ (fun r2 v1 H locs hw2 hR hP hD2 hS => ?_)
        have hD : va_D (fun q : Nat => s.heap.size ≤ q) (is_XW hxa dx u1 ++ is_MW hma dm v1) := hD2.sub [2, 3, 4, 5, 6, 0, 1] (by decide) rfl
        obtain ⟨he, hI⟩ : r1 = r2 ∧ is_LI u1 v1 := is_st_add hn hbk hso hgk hw1 hw2
        refine lv_icmp_eq (tgt := 338) hx hb dL_law_106 (by decide) (fun hq => ?_) (fun hq => ?_)
        · refine lv_iinc (v := nI (i + 3)) (lv' := [(3, .int (nI (i + 3))), (2, .ref (hma 0)), (1, .ref (hxa 0)), (0, .ref b)]) hx hb dL_law_338 hl (k := 0) rfl (nI_add i 3) (by decide) rfl (fun ls hl => ?_)
          refine lv_goto (tgt := 18) hx hb dL_law_341 (by decide) ?_
          exact ih (i + 3) u1 v1 (by omega) (by omega) (hI) _ _ ls hP hR hD hS hl
        · exact absurd he hq
      · refine lv_tableIn (off := 79) (tgt := 111) hx hb dL_law_32 (by decide) (by decide) (by decide) (by decide) ?_
        rcases (show ((xs (i + 1)) < 0 ∨ nI n ≤ xs (i + 1)) ∨ ∃ j : Nat, j < n ∧ xs (i + 1) = nI j from by
          rcases pk_ix (xs (i + 1)) (n := n) (by omega) with q | q | q
          · exact Or.inl (Or.inl q)
          · exact Or.inl (Or.inr q)
          · exact Or.inr q) with hno | ⟨jd, hjd, ejd⟩
        · refine lv_aload_n hx hb dL_law_111 rfl (lv_at hl 2 rfl) ?_
          refine lv_aload_n hx hb dL_law_112 rfl (lv_at hl 3 rfl) ?_
          refine lv_iload_n hx hb dL_law_113 rfl (lv_at hl 0 rfl) ?_
          refine lv_iconst (v := nI 1) hx hb dL_law_114 (by decide) ?_
          refine lv_iadd hx hb dL_law_115 ?_
          refine is_ti (nI (i + 1)) (nI_add i 1) ?_
          refine is_sld (i := (i + 1)) hx hb hX hbl hbA hS (by omega) (by omega) dL_law_116 ?_
          refine is_cLi (Wd := is_XW hxa dx) (u := (nI n, fb, so, fl, st, fo, fc, dp)) (wr := is_MW hma dm (nI n, gb)) (As := [.int (xs (i + 1))]) (rest := []) (b := hxa 0) ⟨hx, hb, hml, hown, hts⟩ (metX0_dropN l dC dI hxa dx _ n fb so fl st fo fc dp hn (xs (i + 1)) hno) (cwV 1 hts (lw_V q52 q53 q54 q11 q55) rfl rfl rfl (by decide +kernel) ⟨Nat.le_of_ble_eq_true rfl, Nat.le_of_ble_eq_true rfl⟩) (va_recv hKx hP (ci := 0) (q0 := 0) rfl rfl) hKx hP hR hD hS hA rfl hl.1 rfl (Nat.le_of_ble_eq_true rfl) dL_law_117 ⟨Nat.le_of_ble_eq_true rfl, Nat.le_of_ble_eq_true rfl⟩ (fun r1 u1 H locs hw1 hP hR hD hS => ?_)
          refine lv_aload_n hx hb dL_law_120 rfl (lv_at hl 1 rfl) ?_
          refine lv_aload_n hx hb dL_law_121 rfl (lv_at hl 3 rfl) ?_
          refine lv_iload_n hx hb dL_law_122 rfl (lv_at hl 0 rfl) ?_
          refine lv_iconst (v := nI 1) hx hb dL_law_123 (by decide) ?_
          refine lv_iadd hx hb dL_law_124 ?_
          refine is_ti (nI (i + 1)) (nI_add i 1) ?_
          refine is_sld (i := (i + 1)) hx hb hX hbl hbA hS (by omega) (by omega) dL_law_125 ?_
          have hD2 : va_D (fun q : Nat => s.heap.size ≤ q) (is_MW hma dm (nI n, gb) ++ is_XW hxa dx u1) := hD.sub [5, 6, 0, 1, 2, 3, 4] (by decide) rfl
          refine is_cLi (Wd := is_MW hma dm) (u := (nI n, gb)) (wr := is_XW hxa dx u1) (As := [.int (xs (i + 1))]) (rest := [.int r1]) (b := hma 0) ⟨hx, hb, hml, hown, hts⟩ (metX1_dropN l dC dI hma dm _ n gb hn (xs (i + 1)) hno) (cwV 1 hts (lw_V q138 q139 q140 q12 q141) rfl rfl rfl (by decide +kernel) ⟨Nat.le_of_ble_eq_true rfl, Nat.le_of_ble_eq_true rfl⟩) (va_recv hKm hR (ci := 1) (q0 := 0) rfl rfl) hKm hR hP hD2 hS hA rfl hl.1 rfl (Nat.le_of_ble_eq_true rfl) dL_law_126 ⟨Nat.le_of_ble_eq_true rfl, Nat.le_of_ble_eq_true rfl⟩ (fun r2 v1 H locs hw2 hR hP hD2 hS => ?_)
          have hD : va_D (fun q : Nat => s.heap.size ≤ q) (is_XW hxa dx u1 ++ is_MW hma dm v1) := hD2.sub [2, 3, 4, 5, 6, 0, 1] (by decide) rfl
          obtain ⟨he, hI⟩ : r1 = r2 ∧ is_LI u1 v1 := ⟨by rw [hw1.1, hw2.1], n, bk, fb, so, fl, st, fo, fc, dp, gb, hn, hbk, hso, hgk, hw1.2, hw2.2⟩
          refine lv_icmp_eq (tgt := 338) hx hb dL_law_129 (by decide) (fun hq => ?_) (fun hq => ?_)
          · refine lv_iinc (v := nI (i + 3)) (lv' := [(3, .int (nI (i + 3))), (2, .ref (hma 0)), (1, .ref (hxa 0)), (0, .ref b)]) hx hb dL_law_338 hl (k := 0) rfl (nI_add i 3) (by decide) rfl (fun ls hl => ?_)
            refine lv_goto (tgt := 18) hx hb dL_law_341 (by decide) ?_
            exact ih (i + 3) u1 v1 (by omega) (by omega) (hI) _ _ ls hP hR hD hS hl
          · exact absurd he hq
        · refine lv_aload_n hx hb dL_law_111 rfl (lv_at hl 2 rfl) ?_
          refine lv_aload_n hx hb dL_law_112 rfl (lv_at hl 3 rfl) ?_
          refine lv_iload_n hx hb dL_law_113 rfl (lv_at hl 0 rfl) ?_
          refine lv_iconst (v := nI 1) hx hb dL_law_114 (by decide) ?_
          refine lv_iadd hx hb dL_law_115 ?_
          refine is_ti (nI (i + 1)) (nI_add i 1) ?_
          refine is_sld (i := (i + 1)) hx hb hX hbl hbA hS (by omega) (by omega) dL_law_116 ?_
          refine is_ti (nI jd) (ejd) ?_
          refine is_cLi (Wd := is_XW hxa dx) (u := (nI n, fb, so, fl, st, fo, fc, dp)) (wr := is_MW hma dm (nI n, gb)) (As := [.int (nI jd)]) (rest := []) (b := hxa 0) ⟨hx, hb, hml, hown, hts⟩ (metX0_drop l dC dI hxa dx _ n fb so fl st fo fc dp hn jd hjd) (cwV 1 hts (lw_V q52 q53 q54 q11 q55) rfl rfl rfl (by decide +kernel) ⟨Nat.le_of_ble_eq_true rfl, Nat.le_of_ble_eq_true rfl⟩) (va_recv hKx hP (ci := 0) (q0 := 0) rfl rfl) hKx hP hR hD hS hA rfl hl.1 rfl (Nat.le_of_ble_eq_true rfl) dL_law_117 ⟨Nat.le_of_ble_eq_true rfl, Nat.le_of_ble_eq_true rfl⟩ (fun r1 u1 H locs hw1 hP hR hD hS => ?_)
          refine lv_aload_n hx hb dL_law_120 rfl (lv_at hl 1 rfl) ?_
          refine lv_aload_n hx hb dL_law_121 rfl (lv_at hl 3 rfl) ?_
          refine lv_iload_n hx hb dL_law_122 rfl (lv_at hl 0 rfl) ?_
          refine lv_iconst (v := nI 1) hx hb dL_law_123 (by decide) ?_
          refine lv_iadd hx hb dL_law_124 ?_
          refine is_ti (nI (i + 1)) (nI_add i 1) ?_
          refine is_sld (i := (i + 1)) hx hb hX hbl hbA hS (by omega) (by omega) dL_law_125 ?_
          refine is_ti (nI jd) (ejd) ?_
          have hD2 : va_D (fun q : Nat => s.heap.size ≤ q) (is_MW hma dm (nI n, gb) ++ is_XW hxa dx u1) := hD.sub [5, 6, 0, 1, 2, 3, 4] (by decide) rfl
          refine is_cLi (Wd := is_MW hma dm) (u := (nI n, gb)) (wr := is_XW hxa dx u1) (As := [.int (nI jd)]) (rest := [.int r1]) (b := hma 0) ⟨hx, hb, hml, hown, hts⟩ (metX1_drop l dC dI hma dm _ n gb hn jd hjd) (cwV 1 hts (lw_V q138 q139 q140 q12 q141) rfl rfl rfl (by decide +kernel) ⟨Nat.le_of_ble_eq_true rfl, Nat.le_of_ble_eq_true rfl⟩) (va_recv hKm hR (ci := 1) (q0 := 0) rfl rfl) hKm hR hP hD2 hS hA rfl hl.1 rfl (Nat.le_of_ble_eq_true rfl) dL_law_126 ⟨Nat.le_of_ble_eq_true rfl, Nat.le_of_ble_eq_true rfl⟩ (fun r2 v1 H locs hw2 hR hP hD2 hS => ?_)
          have hD : va_D (fun q : Nat => s.heap.size ≤ q) (is_XW hxa dx u1 ++ is_MW hma dm v1) := hD2.sub [2, 3, 4, 5, 6, 0, 1] (by decide) rfl
          obtain ⟨he, hI⟩ : r1 = r2 ∧ is_LI u1 v1 := ⟨by rw [hw1.1, hw2.1], n - 1, _, _, _, _, _, _, _, _, _, by omega, is_Bk_dr hbk, Or.inl rfl, is_Bk_dr hgk, hw1.2, hw2.2⟩
          refine lv_icmp_eq (tgt := 338) hx hb dL_law_129 (by decide) (fun hq => ?_) (fun hq => ?_)
          · refine lv_iinc (v := nI (i + 3)) (lv' := [(3, .int (nI (i + 3))), (2, .ref (hma 0)), (1, .ref (hxa 0)), (0, .ref b)]) hx hb dL_law_338 hl (k := 0) rfl (nI_add i 3) (by decide) rfl (fun ls hl => ?_)
            refine lv_goto (tgt := 18) hx hb dL_law_341 (by decide) ?_
            exact ih (i + 3) u1 v1 (by omega) (by omega) (hI) _ _ ls hP hR hD hS hl
          · exact absurd he hq
      · refine lv_tableIn (off := 102) (tgt := 134) hx hb dL_law_32 (by decide) (by decide) (by decide) (by decide) ?_
        obtain ⟨v, hv, ev⟩ := is_of32 (xs (i + 1))
        refine lv_aload_n hx hb dL_law_134 rfl (lv_at hl 2 rfl) ?_
        refine lv_aload_n hx hb dL_law_135 rfl (lv_at hl 3 rfl) ?_
        refine lv_iload_n hx hb dL_law_136 rfl (lv_at hl 0 rfl) ?_
        refine lv_iconst (v := nI 1) hx hb dL_law_137 (by decide) ?_
        refine lv_iadd hx hb dL_law_138 ?_
        refine is_ti (nI (i + 1)) (nI_add i 1) ?_
        refine is_sld (i := (i + 1)) hx hb hX hbl hbA hS (by omega) (by omega) dL_law_139 ?_
        refine is_ti (nI v) (ev) ?_
        refine is_cLi (Wd := is_XW hxa dx) (u := (nI n, fb, so, fl, st, fo, fc, dp)) (wr := is_MW hma dm (nI n, gb)) (As := [.int (nI v)]) (rest := []) (b := hxa 0) ⟨hx, hb, hml, hown, hts⟩ (metX0_support l dC dI hxa dx _ bk n fb so fl st fo fc dp hn hbk hso v hv) (cwV 1 hts (lw_V q56 q57 q58 q11 q59) rfl rfl rfl (by decide +kernel) ⟨Nat.le_of_ble_eq_true rfl, Nat.le_of_ble_eq_true rfl⟩) (va_recv hKx hP (ci := 0) (q0 := 0) rfl rfl) hKx hP hR hD hS hA rfl hl.1 rfl (Nat.le_of_ble_eq_true rfl) dL_law_140 ⟨Nat.le_of_ble_eq_true rfl, Nat.le_of_ble_eq_true rfl⟩ (fun r1 u1 H locs hw1 hP hR hD hS => ?_)
        refine lv_aload_n hx hb dL_law_143 rfl (lv_at hl 1 rfl) ?_
        refine lv_aload_n hx hb dL_law_144 rfl (lv_at hl 3 rfl) ?_
        refine lv_iload_n hx hb dL_law_145 rfl (lv_at hl 0 rfl) ?_
        refine lv_iconst (v := nI 1) hx hb dL_law_146 (by decide) ?_
        refine lv_iadd hx hb dL_law_147 ?_
        refine is_ti (nI (i + 1)) (nI_add i 1) ?_
        refine is_sld (i := (i + 1)) hx hb hX hbl hbA hS (by omega) (by omega) dL_law_148 ?_
        refine is_ti (nI v) (ev) ?_
        have hD2 : va_D (fun q : Nat => s.heap.size ≤ q) (is_MW hma dm (nI n, gb) ++ is_XW hxa dx u1) := hD.sub [5, 6, 0, 1, 2, 3, 4] (by decide) rfl
        refine is_cLi (Wd := is_MW hma dm) (u := (nI n, gb)) (wr := is_XW hxa dx u1) (As := [.int (nI v)]) (rest := [.int r1]) (b := hma 0) ⟨hx, hb, hml, hown, hts⟩ (metX1_support l dC dI hma dm _ bk n gb hn hgk v hv) (cwV 1 hts (lw_V q142 q143 q144 q12 q145) rfl rfl rfl (by decide +kernel) ⟨Nat.le_of_ble_eq_true rfl, Nat.le_of_ble_eq_true rfl⟩) (va_recv hKm hR (ci := 1) (q0 := 0) rfl rfl) hKm hR hP hD2 hS hA rfl hl.1 rfl (Nat.le_of_ble_eq_true rfl) dL_law_149 ⟨Nat.le_of_ble_eq_true rfl, Nat.le_of_ble_eq_true rfl⟩ (fun r2 v1 H locs hw2 hR hP hD2 hS => ?_)
        have hD : va_D (fun q : Nat => s.heap.size ≤ q) (is_XW hxa dx u1 ++ is_MW hma dm v1) := hD2.sub [2, 3, 4, 5, 6, 0, 1] (by decide) rfl
        obtain ⟨he, hI⟩ : r1 = r2 ∧ is_LI u1 v1 := ⟨by rw [hw1.1, hw2.1], is_LI_sorted hn hbk hgk hw1.2 hw2.2⟩
        refine lv_icmp_eq (tgt := 338) hx hb dL_law_152 (by decide) (fun hq => ?_) (fun hq => ?_)
        · refine lv_iinc (v := nI (i + 3)) (lv' := [(3, .int (nI (i + 3))), (2, .ref (hma 0)), (1, .ref (hxa 0)), (0, .ref b)]) hx hb dL_law_338 hl (k := 0) rfl (nI_add i 3) (by decide) rfl (fun ls hl => ?_)
          refine lv_goto (tgt := 18) hx hb dL_law_341 (by decide) ?_
          exact ih (i + 3) u1 v1 (by omega) (by omega) (hI) _ _ ls hP hR hD hS hl
        · exact absurd he hq
      · refine lv_tableIn (off := 125) (tgt := 157) hx hb dL_law_32 (by decide) (by decide) (by decide) (by decide) ?_
        refine lv_aload_n hx hb dL_law_157 rfl (lv_at hl 2 rfl) ?_
        refine lv_aload_n hx hb dL_law_158 rfl (lv_at hl 3 rfl) ?_
        refine lv_iload_n hx hb dL_law_159 rfl (lv_at hl 0 rfl) ?_
        refine lv_iconst (v := nI 1) hx hb dL_law_160 (by decide) ?_
        refine lv_iadd hx hb dL_law_161 ?_
        refine is_ti (nI (i + 1)) (nI_add i 1) ?_
        refine is_sld (i := (i + 1)) hx hb hX hbl hbA hS (by omega) (by omega) dL_law_162 ?_
        refine is_cLi (Wd := is_XW hxa dx) (u := (nI n, fb, so, fl, st, fo, fc, dp)) (wr := is_MW hma dm (nI n, gb)) (As := [.int (xs (i + 1))]) (rest := []) (b := hxa 0) ⟨hx, hb, hml, hown, hts⟩ (metX0_often l dC dI hxa dx _ bk n fb so fl st fo fc dp hn hbk hso (xs (i + 1))) (cwV 1 hts (lw_V q71 q72 q73 q11 q74) rfl rfl rfl (by decide +kernel) ⟨Nat.le_of_ble_eq_true rfl, Nat.le_of_ble_eq_true rfl⟩) (va_recv hKx hP (ci := 0) (q0 := 0) rfl rfl) hKx hP hR hD hS hA rfl hl.1 rfl (Nat.le_of_ble_eq_true rfl) dL_law_163 ⟨Nat.le_of_ble_eq_true rfl, Nat.le_of_ble_eq_true rfl⟩ (fun r1 u1 H locs hw1 hP hR hD hS => ?_)
        refine lv_aload_n hx hb dL_law_166 rfl (lv_at hl 1 rfl) ?_
        refine lv_aload_n hx hb dL_law_167 rfl (lv_at hl 3 rfl) ?_
        refine lv_iload_n hx hb dL_law_168 rfl (lv_at hl 0 rfl) ?_
        refine lv_iconst (v := nI 1) hx hb dL_law_169 (by decide) ?_
        refine lv_iadd hx hb dL_law_170 ?_
        refine is_ti (nI (i + 1)) (nI_add i 1) ?_
        refine is_sld (i := (i + 1)) hx hb hX hbl hbA hS (by omega) (by omega) dL_law_171 ?_
        have hD2 : va_D (fun q : Nat => s.heap.size ≤ q) (is_MW hma dm (nI n, gb) ++ is_XW hxa dx u1) := hD.sub [5, 6, 0, 1, 2, 3, 4] (by decide) rfl
        refine is_cLi (Wd := is_MW hma dm) (u := (nI n, gb)) (wr := is_XW hxa dx u1) (As := [.int (xs (i + 1))]) (rest := [.int r1]) (b := hma 0) ⟨hx, hb, hml, hown, hts⟩ (metX1_often l dC dI hma dm _ bk n gb hn hgk (xs (i + 1))) (cwV 1 hts (lw_V q146 q147 q148 q12 q149) rfl rfl rfl (by decide +kernel) ⟨Nat.le_of_ble_eq_true rfl, Nat.le_of_ble_eq_true rfl⟩) (va_recv hKm hR (ci := 1) (q0 := 0) rfl rfl) hKm hR hP hD2 hS hA rfl hl.1 rfl (Nat.le_of_ble_eq_true rfl) dL_law_172 ⟨Nat.le_of_ble_eq_true rfl, Nat.le_of_ble_eq_true rfl⟩ (fun r2 v1 H locs hw2 hR hP hD2 hS => ?_)
        have hD : va_D (fun q : Nat => s.heap.size ≤ q) (is_XW hxa dx u1 ++ is_MW hma dm v1) := hD2.sub [2, 3, 4, 5, 6, 0, 1] (by decide) rfl
        obtain ⟨he, hI⟩ : r1 = r2 ∧ is_LI u1 v1 := ⟨by rw [hw1.1, hw2.1], is_LI_fin hn hbk hgk hw1.2 hw2.2⟩
        refine lv_icmp_eq (tgt := 338) hx hb dL_law_175 (by decide) (fun hq => ?_) (fun hq => ?_)
        · refine lv_iinc (v := nI (i + 3)) (lv' := [(3, .int (nI (i + 3))), (2, .ref (hma 0)), (1, .ref (hxa 0)), (0, .ref b)]) hx hb dL_law_338 hl (k := 0) rfl (nI_add i 3) (by decide) rfl (fun ls hl => ?_)
          refine lv_goto (tgt := 18) hx hb dL_law_341 (by decide) ?_
          exact ih (i + 3) u1 v1 (by omega) (by omega) (hI) _ _ ls hP hR hD hS hl
        · exact absurd he hq
      · refine lv_tableIn (off := 148) (tgt := 180) hx hb dL_law_32 (by decide) (by decide) (by decide) (by decide) ?_
        refine lv_aload_n hx hb dL_law_180 rfl (lv_at hl 2 rfl) ?_
        refine lv_aload_n hx hb dL_law_181 rfl (lv_at hl 3 rfl) ?_
        refine lv_iload_n hx hb dL_law_182 rfl (lv_at hl 0 rfl) ?_
        refine lv_iconst (v := nI 1) hx hb dL_law_183 (by decide) ?_
        refine lv_iadd hx hb dL_law_184 ?_
        refine is_ti (nI (i + 1)) (nI_add i 1) ?_
        refine is_sld (i := (i + 1)) hx hb hX hbl hbA hS (by omega) (by omega) dL_law_185 ?_
        refine is_cLi (Wd := is_XW hxa dx) (u := (nI n, fb, so, fl, st, fo, fc, dp)) (wr := is_MW hma dm (nI n, gb)) (As := [.int (xs (i + 1))]) (rest := []) (b := hxa 0) ⟨hx, hb, hml, hown, hts⟩ (metX0_full l dC dI hxa dx _ bk n fb so fl st fo fc dp hn hbk hso (xs (i + 1))) (cwV 1 hts (lw_V q87 q88 q89 q11 q90) rfl rfl rfl (by decide +kernel) ⟨Nat.le_of_ble_eq_true rfl, Nat.le_of_ble_eq_true rfl⟩) (va_recv hKx hP (ci := 0) (q0 := 0) rfl rfl) hKx hP hR hD hS hA rfl hl.1 rfl (Nat.le_of_ble_eq_true rfl) dL_law_186 ⟨Nat.le_of_ble_eq_true rfl, Nat.le_of_ble_eq_true rfl⟩ (fun r1 u1 H locs hw1 hP hR hD hS => ?_)
        refine lv_aload_n hx hb dL_law_189 rfl (lv_at hl 1 rfl) ?_
        refine lv_aload_n hx hb dL_law_190 rfl (lv_at hl 3 rfl) ?_
        refine lv_iload_n hx hb dL_law_191 rfl (lv_at hl 0 rfl) ?_
        refine lv_iconst (v := nI 1) hx hb dL_law_192 (by decide) ?_
        refine lv_iadd hx hb dL_law_193 ?_
        refine is_ti (nI (i + 1)) (nI_add i 1) ?_
        refine is_sld (i := (i + 1)) hx hb hX hbl hbA hS (by omega) (by omega) dL_law_194 ?_
        have hD2 : va_D (fun q : Nat => s.heap.size ≤ q) (is_MW hma dm (nI n, gb) ++ is_XW hxa dx u1) := hD.sub [5, 6, 0, 1, 2, 3, 4] (by decide) rfl
        refine is_cLi (Wd := is_MW hma dm) (u := (nI n, gb)) (wr := is_XW hxa dx u1) (As := [.int (xs (i + 1))]) (rest := [.int r1]) (b := hma 0) ⟨hx, hb, hml, hown, hts⟩ (metX1_full l dC dI hma dm _ bk n gb hn hgk (xs (i + 1))) (cwV 1 hts (lw_V q155 q156 q157 q12 q158) rfl rfl rfl (by decide +kernel) ⟨Nat.le_of_ble_eq_true rfl, Nat.le_of_ble_eq_true rfl⟩) (va_recv hKm hR (ci := 1) (q0 := 0) rfl rfl) hKm hR hP hD2 hS hA rfl hl.1 rfl (Nat.le_of_ble_eq_true rfl) dL_law_195 ⟨Nat.le_of_ble_eq_true rfl, Nat.le_of_ble_eq_true rfl⟩ (fun r2 v1 H locs hw2 hR hP hD2 hS => ?_)
        have hD : va_D (fun q : Nat => s.heap.size ≤ q) (is_XW hxa dx u1 ++ is_MW hma dm v1) := hD2.sub [2, 3, 4, 5, 6, 0, 1] (by decide) rfl
        obtain ⟨he, hI⟩ : r1 = r2 ∧ is_LI u1 v1 := ⟨by rw [hw1.1, hw2.1], is_LI_fin hn hbk hgk hw1.2 hw2.2⟩
        refine lv_icmp_eq (tgt := 338) hx hb dL_law_198 (by decide) (fun hq => ?_) (fun hq => ?_)
        · refine lv_iinc (v := nI (i + 3)) (lv' := [(3, .int (nI (i + 3))), (2, .ref (hma 0)), (1, .ref (hxa 0)), (0, .ref b)]) hx hb dL_law_338 hl (k := 0) rfl (nI_add i 3) (by decide) rfl (fun ls hl => ?_)
          refine lv_goto (tgt := 18) hx hb dL_law_341 (by decide) ?_
          exact ih (i + 3) u1 v1 (by omega) (by omega) (hI) _ _ ls hP hR hD hS hl
        · exact absurd he hq
      · refine lv_tableIn (off := 171) (tgt := 203) hx hb dL_law_32 (by decide) (by decide) (by decide) (by decide) ?_
        refine lv_aload_n hx hb dL_law_203 rfl (lv_at hl 2 rfl) ?_
        refine lv_aload_n hx hb dL_law_204 rfl (lv_at hl 3 rfl) ?_
        refine lv_iload_n hx hb dL_law_205 rfl (lv_at hl 0 rfl) ?_
        refine lv_iconst (v := nI 1) hx hb dL_law_206 (by decide) ?_
        refine lv_iadd hx hb dL_law_207 ?_
        refine is_ti (nI (i + 1)) (nI_add i 1) ?_
        refine is_sld (i := (i + 1)) hx hb hX hbl hbA hS (by omega) (by omega) dL_law_208 ?_
        refine is_cLi (Wd := is_XW hxa dx) (u := (nI n, fb, so, fl, st, fo, fc, dp)) (wr := is_MW hma dm (nI n, gb)) (As := [.int (xs (i + 1))]) (rest := []) (b := hxa 0) ⟨hx, hb, hml, hown, hts⟩ (metX0_largest l dC dI hxa dx _ bk n fb so fl st fo fc dp hn hbk hso (xs (i + 1))) (cwV 1 hts (lw_V q96 q97 q98 q11 q99) rfl rfl rfl (by decide +kernel) ⟨Nat.le_of_ble_eq_true rfl, Nat.le_of_ble_eq_true rfl⟩) (va_recv hKx hP (ci := 0) (q0 := 0) rfl rfl) hKx hP hR hD hS hA rfl hl.1 rfl (Nat.le_of_ble_eq_true rfl) dL_law_209 ⟨Nat.le_of_ble_eq_true rfl, Nat.le_of_ble_eq_true rfl⟩ (fun r1 u1 H locs hw1 hP hR hD hS => ?_)
        refine lv_aload_n hx hb dL_law_212 rfl (lv_at hl 1 rfl) ?_
        refine lv_aload_n hx hb dL_law_213 rfl (lv_at hl 3 rfl) ?_
        refine lv_iload_n hx hb dL_law_214 rfl (lv_at hl 0 rfl) ?_
        refine lv_iconst (v := nI 1) hx hb dL_law_215 (by decide) ?_
        refine lv_iadd hx hb dL_law_216 ?_
        refine is_ti (nI (i + 1)) (nI_add i 1) ?_
        refine is_sld (i := (i + 1)) hx hb hX hbl hbA hS (by omega) (by omega) dL_law_217 ?_
        have hD2 : va_D (fun q : Nat => s.heap.size ≤ q) (is_MW hma dm (nI n, gb) ++ is_XW hxa dx u1) := hD.sub [5, 6, 0, 1, 2, 3, 4] (by decide) rfl
        refine is_cLi (Wd := is_MW hma dm) (u := (nI n, gb)) (wr := is_XW hxa dx u1) (As := [.int (xs (i + 1))]) (rest := [.int r1]) (b := hma 0) ⟨hx, hb, hml, hown, hts⟩ (metX1_largest l dC dI hma dm _ bk n gb hn hgk (xs (i + 1))) (cwV 1 hts (lw_V q163 q164 q165 q12 q166) rfl rfl rfl (by decide +kernel) ⟨Nat.le_of_ble_eq_true rfl, Nat.le_of_ble_eq_true rfl⟩) (va_recv hKm hR (ci := 1) (q0 := 0) rfl rfl) hKm hR hP hD2 hS hA rfl hl.1 rfl (Nat.le_of_ble_eq_true rfl) dL_law_218 ⟨Nat.le_of_ble_eq_true rfl, Nat.le_of_ble_eq_true rfl⟩ (fun r2 v1 H locs hw2 hR hP hD2 hS => ?_)
        have hD : va_D (fun q : Nat => s.heap.size ≤ q) (is_XW hxa dx u1 ++ is_MW hma dm v1) := hD2.sub [2, 3, 4, 5, 6, 0, 1] (by decide) rfl
        obtain ⟨he, hI⟩ : r1 = r2 ∧ is_LI u1 v1 := ⟨by rw [hw1.1, hw2.1], is_LI_fin hn hbk hgk hw1.2 hw2.2⟩
        refine lv_icmp_eq (tgt := 338) hx hb dL_law_221 (by decide) (fun hq => ?_) (fun hq => ?_)
        · refine lv_iinc (v := nI (i + 3)) (lv' := [(3, .int (nI (i + 3))), (2, .ref (hma 0)), (1, .ref (hxa 0)), (0, .ref b)]) hx hb dL_law_338 hl (k := 0) rfl (nI_add i 3) (by decide) rfl (fun ls hl => ?_)
          refine lv_goto (tgt := 18) hx hb dL_law_341 (by decide) ?_
          exact ih (i + 3) u1 v1 (by omega) (by omega) (hI) _ _ ls hP hR hD hS hl
        · exact absurd he hq
      · refine lv_tableIn (off := 194) (tgt := 226) hx hb dL_law_32 (by decide) (by decide) (by decide) (by decide) ?_
        refine lv_aload_n hx hb dL_law_226 rfl (lv_at hl 2 rfl) ?_
        refine lv_aload_n hx hb dL_law_227 rfl (lv_at hl 3 rfl) ?_
        refine lv_iload_n hx hb dL_law_228 rfl (lv_at hl 0 rfl) ?_
        refine lv_iconst (v := nI 1) hx hb dL_law_229 (by decide) ?_
        refine lv_iadd hx hb dL_law_230 ?_
        refine is_ti (nI (i + 1)) (nI_add i 1) ?_
        refine is_sld (i := (i + 1)) hx hb hX hbl hbA hS (by omega) (by omega) dL_law_231 ?_
        refine is_cLi (Wd := is_XW hxa dx) (u := (nI n, fb, so, fl, st, fo, fc, dp)) (wr := is_MW hma dm (nI n, gb)) (As := [.int (xs (i + 1))]) (rest := []) (b := hxa 0) ⟨hx, hb, hml, hown, hts⟩ (metX0_size l dC dI hxa dx _ bk n fb so fl st fo fc dp hn hbk hso (xs (i + 1))) (cwV 1 hts (lw_V q100 q101 q102 q11 q103) rfl rfl rfl (by decide +kernel) ⟨Nat.le_of_ble_eq_true rfl, Nat.le_of_ble_eq_true rfl⟩) (va_recv hKx hP (ci := 0) (q0 := 0) rfl rfl) hKx hP hR hD hS hA rfl hl.1 rfl (Nat.le_of_ble_eq_true rfl) dL_law_232 ⟨Nat.le_of_ble_eq_true rfl, Nat.le_of_ble_eq_true rfl⟩ (fun r1 u1 H locs hw1 hP hR hD hS => ?_)
        refine lv_aload_n hx hb dL_law_235 rfl (lv_at hl 1 rfl) ?_
        refine lv_aload_n hx hb dL_law_236 rfl (lv_at hl 3 rfl) ?_
        refine lv_iload_n hx hb dL_law_237 rfl (lv_at hl 0 rfl) ?_
        refine lv_iconst (v := nI 1) hx hb dL_law_238 (by decide) ?_
        refine lv_iadd hx hb dL_law_239 ?_
        refine is_ti (nI (i + 1)) (nI_add i 1) ?_
        refine is_sld (i := (i + 1)) hx hb hX hbl hbA hS (by omega) (by omega) dL_law_240 ?_
        have hD2 : va_D (fun q : Nat => s.heap.size ≤ q) (is_MW hma dm (nI n, gb) ++ is_XW hxa dx u1) := hD.sub [5, 6, 0, 1, 2, 3, 4] (by decide) rfl
        refine is_cLi (Wd := is_MW hma dm) (u := (nI n, gb)) (wr := is_XW hxa dx u1) (As := [.int (xs (i + 1))]) (rest := [.int r1]) (b := hma 0) ⟨hx, hb, hml, hown, hts⟩ (metX1_size l dC dI hma dm _ bk n gb hn hgk (xs (i + 1))) (cwV 1 hts (lw_V q171 q172 q173 q12 q174) rfl rfl rfl (by decide +kernel) ⟨Nat.le_of_ble_eq_true rfl, Nat.le_of_ble_eq_true rfl⟩) (va_recv hKm hR (ci := 1) (q0 := 0) rfl rfl) hKm hR hP hD2 hS hA rfl hl.1 rfl (Nat.le_of_ble_eq_true rfl) dL_law_241 ⟨Nat.le_of_ble_eq_true rfl, Nat.le_of_ble_eq_true rfl⟩ (fun r2 v1 H locs hw2 hR hP hD2 hS => ?_)
        have hD : va_D (fun q : Nat => s.heap.size ≤ q) (is_XW hxa dx u1 ++ is_MW hma dm v1) := hD2.sub [2, 3, 4, 5, 6, 0, 1] (by decide) rfl
        obtain ⟨he, hI⟩ : r1 = r2 ∧ is_LI u1 v1 := ⟨by rw [hw1.1, hw2.1], is_LI_fin hn hbk hgk hw1.2 hw2.2⟩
        refine lv_icmp_eq (tgt := 338) hx hb dL_law_244 (by decide) (fun hq => ?_) (fun hq => ?_)
        · refine lv_iinc (v := nI (i + 3)) (lv' := [(3, .int (nI (i + 3))), (2, .ref (hma 0)), (1, .ref (hxa 0)), (0, .ref b)]) hx hb dL_law_338 hl (k := 0) rfl (nI_add i 3) (by decide) rfl (fun ls hl => ?_)
          refine lv_goto (tgt := 18) hx hb dL_law_341 (by decide) ?_
          exact ih (i + 3) u1 v1 (by omega) (by omega) (hI) _ _ ls hP hR hD hS hl
        · exact absurd he hq
      · refine lv_tableIn (off := 217) (tgt := 249) hx hb dL_law_32 (by decide) (by decide) (by decide) (by decide) ?_
        refine lv_aload_n hx hb dL_law_249 rfl (lv_at hl 2 rfl) ?_
        refine lv_aload_n hx hb dL_law_250 rfl (lv_at hl 3 rfl) ?_
        refine lv_iload_n hx hb dL_law_251 rfl (lv_at hl 0 rfl) ?_
        refine lv_iconst (v := nI 1) hx hb dL_law_252 (by decide) ?_
        refine lv_iadd hx hb dL_law_253 ?_
        refine is_ti (nI (i + 1)) (nI_add i 1) ?_
        refine is_sld (i := (i + 1)) hx hb hX hbl hbA hS (by omega) (by omega) dL_law_254 ?_
        refine lv_aload_n hx hb dL_law_255 rfl (lv_at hl 3 rfl) ?_
        refine lv_iload_n hx hb dL_law_256 rfl (lv_at hl 0 rfl) ?_
        refine lv_iconst (v := nI 2) hx hb dL_law_257 (by decide) ?_
        refine lv_iadd hx hb dL_law_258 ?_
        refine is_ti (nI (i + 2)) (nI_add i 2) ?_
        refine is_sld (i := (i + 2)) hx hb hX hbl hbA hS (by omega) (by omega) dL_law_259 ?_
        refine is_cLi (Wd := is_XW hxa dx) (u := (nI n, fb, so, fl, st, fo, fc, dp)) (wr := is_MW hma dm (nI n, gb)) (As := [.int (xs (i + 1)), .int (xs (i + 2))]) (rest := []) (b := hxa 0) ⟨hx, hb, hml, hown, hts⟩ (metX0_next l dC dI hxa dx _ bk n fb so fl st fo fc dp hn hbk hso (xs (i + 1)) (xs (i + 2))) (cwV 2 hts (lw_V q104 q105 q106 q11 q107) rfl rfl rfl (by decide +kernel) ⟨Nat.le_of_ble_eq_true rfl, Nat.le_of_ble_eq_true rfl⟩) (va_recv hKx hP (ci := 0) (q0 := 0) rfl rfl) hKx hP hR hD hS hA rfl hl.1 rfl (Nat.le_of_ble_eq_true rfl) dL_law_260 ⟨Nat.le_of_ble_eq_true rfl, Nat.le_of_ble_eq_true rfl⟩ (fun r1 u1 H locs hw1 hP hR hD hS => ?_)
        refine lv_aload_n hx hb dL_law_263 rfl (lv_at hl 1 rfl) ?_
        refine lv_aload_n hx hb dL_law_264 rfl (lv_at hl 3 rfl) ?_
        refine lv_iload_n hx hb dL_law_265 rfl (lv_at hl 0 rfl) ?_
        refine lv_iconst (v := nI 1) hx hb dL_law_266 (by decide) ?_
        refine lv_iadd hx hb dL_law_267 ?_
        refine is_ti (nI (i + 1)) (nI_add i 1) ?_
        refine is_sld (i := (i + 1)) hx hb hX hbl hbA hS (by omega) (by omega) dL_law_268 ?_
        refine lv_aload_n hx hb dL_law_269 rfl (lv_at hl 3 rfl) ?_
        refine lv_iload_n hx hb dL_law_270 rfl (lv_at hl 0 rfl) ?_
        refine lv_iconst (v := nI 2) hx hb dL_law_271 (by decide) ?_
        refine lv_iadd hx hb dL_law_272 ?_
        refine is_ti (nI (i + 2)) (nI_add i 2) ?_
        refine is_sld (i := (i + 2)) hx hb hX hbl hbA hS (by omega) (by omega) dL_law_273 ?_
        have hD2 : va_D (fun q : Nat => s.heap.size ≤ q) (is_MW hma dm (nI n, gb) ++ is_XW hxa dx u1) := hD.sub [5, 6, 0, 1, 2, 3, 4] (by decide) rfl
        refine is_cLi (Wd := is_MW hma dm) (u := (nI n, gb)) (wr := is_XW hxa dx u1) (As := [.int (xs (i + 1)), .int (xs (i + 2))]) (rest := [.int r1]) (b := hma 0) ⟨hx, hb, hml, hown, hts⟩ (metX1_next l dC dI hma dm _ bk n gb hn hgk (xs (i + 1)) (xs (i + 2))) (cwV 2 hts (lw_V q178 q179 q180 q12 q181) rfl rfl rfl (by decide +kernel) ⟨Nat.le_of_ble_eq_true rfl, Nat.le_of_ble_eq_true rfl⟩) (va_recv hKm hR (ci := 1) (q0 := 0) rfl rfl) hKm hR hP hD2 hS hA rfl hl.1 rfl (Nat.le_of_ble_eq_true rfl) dL_law_274 ⟨Nat.le_of_ble_eq_true rfl, Nat.le_of_ble_eq_true rfl⟩ (fun r2 v1 H locs hw2 hR hP hD2 hS => ?_)
        have hD : va_D (fun q : Nat => s.heap.size ≤ q) (is_XW hxa dx u1 ++ is_MW hma dm v1) := hD2.sub [2, 3, 4, 5, 6, 0, 1] (by decide) rfl
        obtain ⟨he, hI⟩ : r1 = r2 ∧ is_LI u1 v1 := ⟨is_nx_one hw1.1 hw2.1, is_LI_fin hn hbk hgk hw1.2 hw2.2⟩
        refine lv_icmp_eq (tgt := 338) hx hb dL_law_277 (by decide) (fun hq => ?_) (fun hq => ?_)
        · refine lv_iinc (v := nI (i + 3)) (lv' := [(3, .int (nI (i + 3))), (2, .ref (hma 0)), (1, .ref (hxa 0)), (0, .ref b)]) hx hb dL_law_338 hl (k := 0) rfl (nI_add i 3) (by decide) rfl (fun ls hl => ?_)
          refine lv_goto (tgt := 18) hx hb dL_law_341 (by decide) ?_
          exact ih (i + 3) u1 v1 (by omega) (by omega) (hI) _ _ ls hP hR hD hS hl
        · exact absurd he hq
      · refine lv_tableIn (off := 250) (tgt := 282) hx hb dL_law_32 (by decide) (by decide) (by decide) (by decide) ?_
        obtain ⟨v, hv, ev⟩ := is_of32 (xs (i + 1))
        refine lv_aload_n hx hb dL_law_282 rfl (lv_at hl 2 rfl) ?_
        refine lv_aload_n hx hb dL_law_283 rfl (lv_at hl 3 rfl) ?_
        refine lv_iload_n hx hb dL_law_284 rfl (lv_at hl 0 rfl) ?_
        refine lv_iconst (v := nI 1) hx hb dL_law_285 (by decide) ?_
        refine lv_iadd hx hb dL_law_286 ?_
        refine is_ti (nI (i + 1)) (nI_add i 1) ?_
        refine is_sld (i := (i + 1)) hx hb hX hbl hbA hS (by omega) (by omega) dL_law_287 ?_
        refine is_ti (nI v) (ev) ?_
        refine is_cLi (Wd := is_XW hxa dx) (u := (nI n, fb, so, fl, st, fo, fc, dp)) (wr := is_MW hma dm (nI n, gb)) (As := [.int (nI v)]) (rest := []) (b := hxa 0) ⟨hx, hb, hml, hown, hts⟩ (metX0_closure l dC dI hxa dx _ bk n fb so fl st fo fc dp hn hbk hso v hv) (cwV 1 hts (lw_V q108 q109 q110 q11 q111) rfl rfl rfl (by decide +kernel) ⟨Nat.le_of_ble_eq_true rfl, Nat.le_of_ble_eq_true rfl⟩) (va_recv hKx hP (ci := 0) (q0 := 0) rfl rfl) hKx hP hR hD hS hA rfl hl.1 rfl (Nat.le_of_ble_eq_true rfl) dL_law_288 ⟨Nat.le_of_ble_eq_true rfl, Nat.le_of_ble_eq_true rfl⟩ (fun r1 u1 H locs hw1 hP hR hD hS => ?_)
        refine lv_aload_n hx hb dL_law_291 rfl (lv_at hl 1 rfl) ?_
        refine lv_aload_n hx hb dL_law_292 rfl (lv_at hl 3 rfl) ?_
        refine lv_iload_n hx hb dL_law_293 rfl (lv_at hl 0 rfl) ?_
        refine lv_iconst (v := nI 1) hx hb dL_law_294 (by decide) ?_
        refine lv_iadd hx hb dL_law_295 ?_
        refine is_ti (nI (i + 1)) (nI_add i 1) ?_
        refine is_sld (i := (i + 1)) hx hb hX hbl hbA hS (by omega) (by omega) dL_law_296 ?_
        refine is_ti (nI v) (ev) ?_
        have hD2 : va_D (fun q : Nat => s.heap.size ≤ q) (is_MW hma dm (nI n, gb) ++ is_XW hxa dx u1) := hD.sub [5, 6, 0, 1, 2, 3, 4] (by decide) rfl
        refine is_cLi (Wd := is_MW hma dm) (u := (nI n, gb)) (wr := is_XW hxa dx u1) (As := [.int (nI v)]) (rest := [.int r1]) (b := hma 0) ⟨hx, hb, hml, hown, hts⟩ (metX1_closure l dC dI hma dm _ bk n gb hn hgk v hv) (cwV 1 hts (lw_V q182 q183 q184 q12 q185) rfl rfl rfl (by decide +kernel) ⟨Nat.le_of_ble_eq_true rfl, Nat.le_of_ble_eq_true rfl⟩) (va_recv hKm hR (ci := 1) (q0 := 0) rfl rfl) hKm hR hP hD2 hS hA rfl hl.1 rfl (Nat.le_of_ble_eq_true rfl) dL_law_297 ⟨Nat.le_of_ble_eq_true rfl, Nat.le_of_ble_eq_true rfl⟩ (fun r2 v1 H locs hw2 hR hP hD2 hS => ?_)
        have hD : va_D (fun q : Nat => s.heap.size ≤ q) (is_XW hxa dx u1 ++ is_MW hma dm v1) := hD2.sub [2, 3, 4, 5, 6, 0, 1] (by decide) rfl
        obtain ⟨he, hI⟩ : r1 = r2 ∧ is_LI u1 v1 := ⟨by rw [hw1.1, hw2.1], is_LI_sorted hn hbk hgk hw1.2 hw2.2⟩
        refine lv_icmp_eq (tgt := 338) hx hb dL_law_300 (by decide) (fun hq => ?_) (fun hq => ?_)
        · refine lv_iinc (v := nI (i + 3)) (lv' := [(3, .int (nI (i + 3))), (2, .ref (hma 0)), (1, .ref (hxa 0)), (0, .ref b)]) hx hb dL_law_338 hl (k := 0) rfl (nI_add i 3) (by decide) rfl (fun ls hl => ?_)
          refine lv_goto (tgt := 18) hx hb dL_law_341 (by decide) ?_
          exact ih (i + 3) u1 v1 (by omega) (by omega) (hI) _ _ ls hP hR hD hS hl
        · exact absurd he hq
      · refine lv_tableIn (off := 273) (tgt := 305) hx hb dL_law_32 (by decide) (by decide) (by decide) (by decide) ?_
        refine lv_aload_n hx hb dL_law_305 rfl (lv_at hl 2 rfl) ?_
        refine lv_aload_n hx hb dL_law_306 rfl (lv_at hl 3 rfl) ?_
        refine lv_iload_n hx hb dL_law_307 rfl (lv_at hl 0 rfl) ?_
        refine lv_iconst (v := nI 1) hx hb dL_law_308 (by decide) ?_
        refine lv_iadd hx hb dL_law_309 ?_
        refine is_ti (nI (i + 1)) (nI_add i 1) ?_
        refine is_sld (i := (i + 1)) hx hb hX hbl hbA hS (by omega) (by omega) dL_law_310 ?_
        refine lv_aload_n hx hb dL_law_311 rfl (lv_at hl 3 rfl) ?_
        refine lv_iload_n hx hb dL_law_312 rfl (lv_at hl 0 rfl) ?_
        refine lv_iconst (v := nI 2) hx hb dL_law_313 (by decide) ?_
        refine lv_iadd hx hb dL_law_314 ?_
        refine is_ti (nI (i + 2)) (nI_add i 2) ?_
        refine is_sld (i := (i + 2)) hx hb hX hbl hbA hS (by omega) (by omega) dL_law_315 ?_
        refine is_cLi (Wd := is_XW hxa dx) (u := (nI n, fb, so, fl, st, fo, fc, dp)) (wr := is_MW hma dm (nI n, gb)) (As := [.int (xs (i + 1)), .int (xs (i + 2))]) (rest := []) (b := hxa 0) ⟨hx, hb, hml, hown, hts⟩ (metX0_rules l dC dI hxa dx _ bk n fb so fl st fo fc dp hn hbk hso (xs (i + 1)) (xs (i + 2))) (cwV 2 hts (lw_V q112 q113 q114 q11 q115) rfl rfl rfl (by decide +kernel) ⟨Nat.le_of_ble_eq_true rfl, Nat.le_of_ble_eq_true rfl⟩) (va_recv hKx hP (ci := 0) (q0 := 0) rfl rfl) hKx hP hR hD hS hA rfl hl.1 rfl (Nat.le_of_ble_eq_true rfl) dL_law_316 ⟨Nat.le_of_ble_eq_true rfl, Nat.le_of_ble_eq_true rfl⟩ (fun r1 u1 H locs hw1 hP hR hD hS => ?_)
        refine lv_aload_n hx hb dL_law_319 rfl (lv_at hl 1 rfl) ?_
        refine lv_aload_n hx hb dL_law_320 rfl (lv_at hl 3 rfl) ?_
        refine lv_iload_n hx hb dL_law_321 rfl (lv_at hl 0 rfl) ?_
        refine lv_iconst (v := nI 1) hx hb dL_law_322 (by decide) ?_
        refine lv_iadd hx hb dL_law_323 ?_
        refine is_ti (nI (i + 1)) (nI_add i 1) ?_
        refine is_sld (i := (i + 1)) hx hb hX hbl hbA hS (by omega) (by omega) dL_law_324 ?_
        refine lv_aload_n hx hb dL_law_325 rfl (lv_at hl 3 rfl) ?_
        refine lv_iload_n hx hb dL_law_326 rfl (lv_at hl 0 rfl) ?_
        refine lv_iconst (v := nI 2) hx hb dL_law_327 (by decide) ?_
        refine lv_iadd hx hb dL_law_328 ?_
        refine is_ti (nI (i + 2)) (nI_add i 2) ?_
        refine is_sld (i := (i + 2)) hx hb hX hbl hbA hS (by omega) (by omega) dL_law_329 ?_
        have hD2 : va_D (fun q : Nat => s.heap.size ≤ q) (is_MW hma dm (nI n, gb) ++ is_XW hxa dx u1) := hD.sub [5, 6, 0, 1, 2, 3, 4] (by decide) rfl
        refine is_cLi (Wd := is_MW hma dm) (u := (nI n, gb)) (wr := is_XW hxa dx u1) (As := [.int (xs (i + 1)), .int (xs (i + 2))]) (rest := [.int r1]) (b := hma 0) ⟨hx, hb, hml, hown, hts⟩ (metX1_rules l dC dI hma dm _ bk n gb hn hgk (xs (i + 1)) (xs (i + 2))) (cwV 2 hts (lw_V q186 q187 q188 q12 q189) rfl rfl rfl (by decide +kernel) ⟨Nat.le_of_ble_eq_true rfl, Nat.le_of_ble_eq_true rfl⟩) (va_recv hKm hR (ci := 1) (q0 := 0) rfl rfl) hKm hR hP hD2 hS hA rfl hl.1 rfl (Nat.le_of_ble_eq_true rfl) dL_law_330 ⟨Nat.le_of_ble_eq_true rfl, Nat.le_of_ble_eq_true rfl⟩ (fun r2 v1 H locs hw2 hR hP hD2 hS => ?_)
        have hD : va_D (fun q : Nat => s.heap.size ≤ q) (is_XW hxa dx u1 ++ is_MW hma dm v1) := hD2.sub [2, 3, 4, 5, 6, 0, 1] (by decide) rfl
        obtain ⟨he, hI⟩ : r1 = r2 ∧ is_LI u1 v1 := ⟨by rw [hw1.1, hw2.1], is_LI_fin hn hbk hgk hw1.2 hw2.2⟩
        refine lv_icmp_eq (tgt := 338) hx hb dL_law_333 (by decide) (fun hq => ?_) (fun hq => ?_)
        · refine lv_iinc (v := nI (i + 3)) (lv' := [(3, .int (nI (i + 3))), (2, .ref (hma 0)), (1, .ref (hxa 0)), (0, .ref b)]) hx hb dL_law_338 hl (k := 0) rfl (nI_add i 3) (by decide) rfl (fun ls hl => ?_)
          refine lv_goto (tgt := 18) hx hb dL_law_341 (by decide) ?_
          exact ih (i + 3) u1 v1 (by omega) (by omega) (hI) _ _ ls hP hR hD hS hl
        · exact absurd he hq
      · refine lv_tableOut (tgt := 338) hx hb dL_law_32 (Or.inr (by rw [nI_toInt (by omega)]; omega)) (by decide) ?_
        refine lv_iinc (v := nI (i + 3)) (lv' := [(3, .int (nI (i + 3))), (2, .ref (hma 0)), (1, .ref (hxa 0)), (0, .ref b)]) hx hb dL_law_338 hl (k := 0) rfl (nI_add i 3) (by decide) rfl (fun ls hl => ?_)
        refine lv_goto (tgt := 18) hx hb dL_law_341 (by decide) ?_
        exact ih (i + 3) (nI n, fb, so, fl, st, fo, fc, dp) (nI n, gb) (by omega) (by omega) (⟨n, bk, fb, so, fl, st, fo, fc, dp, gb, hn, hbk, hso, hgk, rfl, rfl⟩) _ _ ls hP hR hD hS hl
end
section
/-! THE LAW, from its entry -/
set_option maxRecDepth 100000
set_option maxHeartbeats 4000000 in
theorem whole_start {p : Program} {e : Env} {s : State} {m : MethodId} {below : List Frame} {meth : Method} {c : Code} (l : Launch) {b L : Nat} {xs : Nat → Int32} (hL : L ≤ 192) (C0 : lw_At p s m meth c b L xs) : W p l e room_1 s m #[Value.ref b] below meth c s.heap [] 0 0 (lw_Z below #[Value.ref b] s) (entryFrame m ([Value.ref b] : List Value).toArray 4) := by
  obtain ⟨hx, hb, hr, hml, hown, hts0, hX, hbl, hlocks, hgv⟩ := id C0
  have hts : ∀ w ∈ lw_all, w.before #[Value.ref b] s = true := fun w h => hts0 w (lw_all_tbl h)
  have hA : ∀ q : Nat, s.heap.size ≤ q → (fun q : Nat => s.heap.size ≤ q) q := fun _ h => h
  obtain ⟨c0, iS0, hKn0⟩ := u_known (C := RX0) (T := TX0) (N := 8) (n := 8) hts in_X0 (hts _ q14)
  obtain ⟨c1, iS1, hKn1⟩ := u_known (C := RX1) (T := TX1) (N := 2) (n := 2) hts in_X1 (hts _ q122)
  obtain ⟨dC, dI, hKc⟩ : ∃ (dC : Nat → ClassId) (dI : Nat → Nat → Nat), ∀ (k : Nat) (q : vw_C), is_cl[k]? = some q → u_Kn s q.1 q.2.1 q.2.2 (dC k) (dI k) := by
    refine ⟨fun k => if k = 0 then c0 else c1, fun k => if k = 0 then iS0 else iS1, ?_⟩
    intro k q hq
    match k, hq with
    | 0, hq => cases hq; exact hKn0
    | 1, hq => cases hq; exact hKn1
    | k + 2, hq => simp [is_cl] at hq
  have hS : va_S (fun q : Nat => s.heap.size ≤ q) s.heap s.heap [] := va_S.rf
  have hK : va_K (dC, dI) is_cl [] s := ⟨hKc, fun k q h => by simp at h⟩
  have hP : va_P (dC, dI) is_cl [] s.heap := fun k q h => by simp at h
  have hD : va_D (fun q : Nat => s.heap.size ≤ q) [] := ⟨fun i j p q h => by simp at h, fun k q h => by simp at h⟩
  have hl := lv_entry ([.ref b]) (n := 4) (Nat.le_of_ble_eq_true rfl)
  rw [lg_entry_eq]
  generalize (lg_sl ([.ref b]) ++ List.replicate (4 - (lg_sl ([.ref b])).length) Slot.unset).toArray = ls at hl ⊢
  have hl : lv_has ls 4 [(0, .ref b)] := hl
  refine va_new (ci := 0) (fs := [.int 0, .null, .int 0, .null, .int 0, .null, .null, .int 0]) (C := RX0) (T := TX0) (N := 8) hx hb hts in_X0 tyX0 tyX0_ok hown (hts _ q13) (hts _ q14) (hts _ q11) hK hP hD hS hA rfl (fun j hj => by rcases (show j = 0 ∨ j = 1 ∨ j = 2 ∨ j = 3 ∨ j = 4 ∨ j = 5 ∨ j = 6 ∨ j = 7 by omega) with rfl | rfl | rfl | rfl | rfl | rfl | rfl | rfl <;> rfl) (Nat.le_of_ble_eq_true rfl) (Nat.le_of_ble_eq_true rfl) dL_law_0 (fun qx H hP hD hS => ?_)
  have hP : va_P (dC, dI) is_cl ([(qx, .inr (0, [.int 0, .null, .int 0, .null, .int 0, .null, .null, .int 0]))]) H := hP
  have hD : va_D (fun q : Nat => s.heap.size ≤ q) ([(qx, .inr (0, [.int 0, .null, .int 0, .null, .int 0, .null, .null, .int 0]))]) := hD
  refine W.widen (k := 1) (n := 8) (by omega) (by omega) ?_
  refine lv_dup hx hb dL_law_3 rfl ?_
  have hPc := hP.sub (ws' := [(qx, .inr (0, [.int 0, .null, .int 0, .null, .int 0, .null, .null, .int 0]))]) [0] rfl
  have hDc := hD.sub (ws' := [(qx, .inr (0, [.int 0, .null, .int 0, .null, .int 0, .null, .null, .int 0]))]) [0] (by decide) rfl
  have hKc0 := hK.sub (tys' := []) [] rfl
  have hFc := va_free (wc := [(qx, .inr (0, [.int 0, .null, .int 0, .null, .int 0, .null, .null, .int 0]))]) hD hS hA [0] rfl
  refine va_callv (va_runI (As := []) (rest := [.ref qx]) ⟨hx, hb, hml, hown, hts⟩ (metX0_init l dC dI qx H.size) (cwI 0 hts (lw_meth q17) rfl rfl rfl (hts _ q11) (hts _ q15) (hts _ q16) rfl (by decide +kernel) ⟨Nat.le_of_ble_eq_true rfl, Nat.le_of_ble_eq_true rfl⟩) ⟨fun a U g mk q => by obtain ⟨q0, q1, qP, qK, qD⟩ := q; exact ⟨q0, q1, qP, va_K.moved (u := U) (U := U.calling g mk a) (Vm.Alike.refl U.vm) qK, qD⟩, fun U hU hW => ⟨rfl, by rw [hU], by rw [hU]; exact hPc, va_K.moved hW.alike hKc0, hDc.weaken (fun _ _ _ _ => trivial)⟩⟩ rfl rfl hl.1 rfl (lv_room (Nat.le_of_ble_eq_true rfl)) dL_law_4 ⟨Nat.le_of_ble_eq_true rfl, Nat.le_of_ble_eq_true rfl⟩) hS (fun q _ h => hFc q h) hFc (fun u t H1 locs ht hvm hw1 hB hz1 hk1 hS => ?_)
  obtain ⟨hxa, dx⟩ := u
  have hw1 : hxa 0 = qx := hw1
  obtain ⟨hP1, hK1, hD1⟩ := hB
  rw [ht] at hP1
  have hK1 : va_K (dC, dI) is_cl (is_XT dx) s := va_K.moved hvm.symm hK1
  obtain ⟨hP, hD⟩ := va_join (wr := []) (w1 := is_XW hxa dx (nI 0, fun _ => 0, nI 0, fun _ => 0, nI 0, fun _ => 0, fun _ => 0, nI 0)) hP hD [0] [] rfl rfl (by decide) (by decide) hk1 hFc hP1 hD1
  generalize H1 = H at hP hS ⊢
  refine W.widen (k := 5) (n := 74) (by omega) (by omega) ?_
  rw [← hw1]
  have hKx := hK1
  have hP : va_P (dC, dI) is_cl (is_XW hxa dx (nI 0, fun _ => 0, nI 0, fun _ => 0, nI 0, fun _ => 0, fun _ => 0, nI 0)) H := hP
  have hD : va_D (fun q : Nat => s.heap.size ≤ q) (is_XW hxa dx (nI 0, fun _ => 0, nI 0, fun _ => 0, nI 0, fun _ => 0, fun _ => 0, nI 0)) := hD
  refine lv_astore_n (lv' := [(1, .ref (hxa 0)), (0, .ref b)]) hx hb dL_law_7 rfl hl (by decide) rfl (fun ls hl => ?_)
  refine va_new (ci := 1) (fs := [.int 0, .null]) (C := RX1) (T := TX1) (N := 2) hx hb hts in_X1 tyX1 tyX1_ok hown (hts _ q121) (hts _ q122) (hts _ q12) hK hP hD hS hA rfl (fun j hj => by rcases (show j = 0 ∨ j = 1 by omega) with rfl | rfl <;> rfl) (Nat.le_of_ble_eq_true rfl) (Nat.le_of_ble_eq_true rfl) dL_law_8 (fun qm H hP hD hS => ?_)
  have hP : va_P (dC, dI) is_cl (is_XW hxa dx (nI 0, fun _ => 0, nI 0, fun _ => 0, nI 0, fun _ => 0, fun _ => 0, nI 0) ++ [(qm, .inr (1, [.int 0, .null]))]) H := hP
  have hD : va_D (fun q : Nat => s.heap.size ≤ q) (is_XW hxa dx (nI 0, fun _ => 0, nI 0, fun _ => 0, nI 0, fun _ => 0, fun _ => 0, nI 0) ++ [(qm, .inr (1, [.int 0, .null]))]) := hD
  refine W.widen (k := 6) (n := 76) (by omega) (by omega) ?_
  refine lv_dup hx hb dL_law_11 rfl ?_
  have hPc := hP.sub (ws' := [(qm, .inr (1, [.int 0, .null]))]) [5] rfl
  have hDc := hD.sub (ws' := [(qm, .inr (1, [.int 0, .null]))]) [5] (by decide) rfl
  have hKc0 := hK.sub (tys' := []) [] rfl
  have hFc := va_free (wc := [(qm, .inr (1, [.int 0, .null]))]) hD hS hA [5] rfl
  refine va_callv (va_runI (As := []) (rest := [.ref qm]) ⟨hx, hb, hml, hown, hts⟩ (metX1_init l dC dI qm H.size) (cwI 0 hts (lw_meth q125) rfl rfl rfl (hts _ q12) (hts _ q123) (hts _ q124) rfl (by decide +kernel) ⟨Nat.le_of_ble_eq_true rfl, Nat.le_of_ble_eq_true rfl⟩) ⟨fun a U g mk q => by obtain ⟨q0, q1, qP, qK, qD⟩ := q; exact ⟨q0, q1, qP, va_K.moved (u := U) (U := U.calling g mk a) (Vm.Alike.refl U.vm) qK, qD⟩, fun U hU hW => ⟨rfl, by rw [hU], by rw [hU]; exact hPc, va_K.moved hW.alike hKc0, hDc.weaken (fun _ _ _ _ => trivial)⟩⟩ rfl rfl hl.1 rfl (lv_room (Nat.le_of_ble_eq_true rfl)) dL_law_12 ⟨Nat.le_of_ble_eq_true rfl, Nat.le_of_ble_eq_true rfl⟩) hS (fun q _ h => hFc q h) hFc (fun u t H1 locs ht hvm hw1 hB hz1 hk1 hS => ?_)
  obtain ⟨hma, dm⟩ := u
  have hw1 : hma 0 = qm := hw1
  obtain ⟨hP1, hK1, hD1⟩ := hB
  rw [ht] at hP1
  have hK1 : va_K (dC, dI) is_cl (is_MT dm) s := va_K.moved hvm.symm hK1
  obtain ⟨hP, hD⟩ := va_join (wr := is_XW hxa dx (nI 0, fun _ => 0, nI 0, fun _ => 0, nI 0, fun _ => 0, fun _ => 0, nI 0)) (w1 := is_MW hma dm (nI 0, fun _ => 0)) hP hD [5] [0, 1, 2, 3, 4] rfl rfl (by decide) (by decide) hk1 hFc hP1 hD1
  generalize H1 = H at hP hS ⊢
  refine W.widen (k := 7) (n := 116) (by omega) (by omega) ?_
  rw [← hw1]
  refine lv_astore_n (lv' := [(2, .ref (hma 0)), (1, .ref (hxa 0)), (0, .ref b)]) hx hb dL_law_15 rfl hl (by decide) rfl (fun ls hl => ?_)
  refine lv_iconst (v := nI 0) hx hb dL_law_16 (by decide) ?_
  refine lv_istore_n (lv' := [(3, .int (nI 0)), (2, .ref (hma 0)), (1, .ref (hxa 0)), (0, .ref b)]) hx hb dL_law_17 rfl hl (by decide) rfl (fun ls hl => ?_)
  exact law_loop l hL C0 dC dI hxa hma dx dm hKx hK1 (L + 1) 0 (nI 0, fun _ => 0, nI 0, fun _ => 0, nI 0, fun _ => 0, fun _ => 0, nI 0) (nI 0, fun _ => 0) (by omega) (by omega) ⟨0, fun _ => 0, _, _, _, _, _, _, _, _, by decide, fun k hk => absurd hk (Nat.not_lt_zero k), Or.inl rfl, fun k hk => absurd hk (Nat.not_lt_zero k), rfl, rfl⟩ _ _ ls (hP.sub [0, 1, 2, 3, 4] rfl) (hP.sub [5, 6] rfl) hD hS hl
end
section
set_option maxRecDepth 100000
set_option maxHeartbeats 4000000 in
theorem lw_walk (l : Launch) (b : Addr) (xs : List Int32) : MetFree l x (headSpec (Jvm.Cond.code x code maxLocals ret :: tables_1) room_1) (lw_P b xs) (fun _ _ _ _ _ => True) lw_Q := by
  refine MetFree.of_bodyS (code := code) (maxLocals := maxLocals) (ret := ret) (by decide) ?_ ?_
  · intro args s m h hn
    obtain ⟨meth, c, h1, h2, h3, h4, h5, h6, -, -⟩ := Cond.code_spec hn (atoms_spec (ws := Jvm.Cond.code x code maxLocals ret :: tables_1) h _ List.mem_cons_self)
    exact ⟨meth, c, h1, h2, h3, h4, h5, h6⟩
  · intro p e s m args below meth c s₁ B hml0 hP _
    obtain ⟨rfl, hx, hbd, hgv⟩ := hP
    obtain ⟨scr, harrAt, hlist, hof, hsmall⟩ := hx
    obtain ⟨hcb, hkn, -, -⟩ := State.arrayAt?_spec harrAt
    have hown : s.vm.findClass R_law = some m.cls := findClass_of_methodNamed B.named
    have hts0 : ∀ c ∈ (Jvm.Cond.code x code maxLocals ret :: tables_1), c.before #[Value.ref b] s = true := atoms_spec (ws := Jvm.Cond.code x code maxLocals ret :: tables_1) B.pre
    have hts : ∀ w ∈ lw_tbl, w.before #[Value.ref b] s = true := k2_hts_sels lw_privs (fun w hw => hts0 w (List.mem_cons_of_mem _ hw)) lw_privs_ok
    have hml : c.maxLocals = 4 := B.maxLocals_eq (hts0 _ List.mem_cons_self)
    have X₀ : Stand p l e room_1 s m #[Value.ref b] below meth c s₁ [] 0 0 := Stand.of_body B
    have hh0 : s₁.heap = s.heap := by rw [B.state]; rfl
    have hsz : scr.slots.size = xs.length := by rw [← Array.length_toList, hlist, List.length_map]
    have hval : ∀ j : Nat, j < xs.length → scr.slots[j]? = some (.int (xs.getD j 0)) := fun j hj => by
      rw [← Array.getElem?_toList, hlist]
      simp [hj]
    have hbl : b < s.heap.size := (Array.getElem?_eq_some_iff.mp hcb).1
    have hX : va_X b xs.length (fun j => xs.getD j 0) s s.heap := ⟨scr, hcb, hof, hkn, hsz, hval⟩
    have K : W p l e room_1 s m #[Value.ref b] below meth c s₁.heap [] 0 0 (lw_Z below #[Value.ref b] s) (entryFrame m ([Value.ref b] : List Value).toArray 4) := by
      rw [hh0]
      exact whole_start l hbd ⟨B.exec, B.bytes, B.returns, hml, hown, hts, hX, hbl, B.notSynchronized, hgv⟩
    obtain ⟨t, a1, o, b1, b2, b3⟩ := K s₁ rfl X₀
    exact ⟨t, o, a1, b1, b2, b3⟩
theorem lw_pre_spec {args : Array Value} {s : State} (h : (Jvm.Cond.and given_1 narrow_1).before args s = true) (hr : rest_1_c.before args s = true) : ∃ (b : Addr) (xs : List Int32), lw_P b xs args s := by
  have hs := flat_of_before _ h
  have hq := flat_of_before _ hr
  have hc : (Cond.count 1).before args s = true := hs _ (by decide +kernel)
  have harr : (Cond.arrayOf (.arg 0) .int).before args s = true := hs _ (by decide +kernel)
  have hle : (Cond.le (.length (.arg 0)) (.int 192)).before args s = true := hs _ (by decide +kernel)
  have hlen : (Cond.isInt (.length (.arg 0))).before args s = true := hq _ (by decide +kernel)
  have hall : (Cond.all (.arg 0) (.isInt (.elem (.arg 0) (.index 0)))).before args s = true := hq _ (by decide +kernel)
  obtain ⟨b, xs, hb, hx⟩ := State.ints_of_pre rfl harr hlen hall
  have hsm : xs.length < 2 ^ 31 := hx.choose_spec.2.2.2
  have hev : (Term.length (.arg 0)).eval args s none [] s = some (.int xs.length.toInt32) := hx.length_eval hb
  have hv := Cond.le_ints hev (show (Term.int 192).eval args s none [] s = some (.int 192) from rfl)
  have hd : xs.length.toInt32 ≤ 192 := by
    simpa [Cond.before, Cond.holds, hv] using hle
  have hN : xs.length ≤ 192 := (Int32.ofNat_le_ofNat hsm (by decide)).mp (show Int32.ofNat xs.length ≤ Int32.ofNat 192 from hd)
  exact ⟨b, xs, Cond.one_arg hc (show args[0]? = some (.ref b) from hb), hx, hN, h⟩
theorem lw_comes (l : Launch) : Comes l x (Jvm.Cond.code x code maxLocals ret :: tables_1) room_1 (fun tb e args s => Calls_1 tb e args s ∧ rest_1 tb e args s ∧ Pre_1 tb e args s)
    (fun _ _ args s o t => lw_Q args s o t) := by
  intro p e ha hc hk s m args below hf hfit hheap happ hpre
  obtain ⟨b, xs, hP⟩ := lw_pre_spec hpre.2.2 hpre.2.1
  obtain ⟨k, o, h1, h2, h3, hQ⟩ := lw_walk l b xs p e ha hc hk s m args below hf ((Spec.applies_iff_loose hf).mp happ).1 hP trivial
  exact ⟨k, o, h1, h2, h3, hQ⟩
theorem lw_frame {s t : State} {o : Outcome} {args : Array Value} (h : Framed s o t [] 600000 7290000) :
    Framed s o t (fieldLocs frame_1_writes args s ++ arrayLocs frame_1_arrays args s ++ staticLocs frame_1_statics s) 600000 7290000 := h
theorem lw_limb (L : Cond) (hL : ∀ (args : Array Value) (s t : State), L.after args s (.returned (some (.int 1))) t = true) :
    ArmFor flags0 classFile x code maxLocals ret World_1 tables_1 room_1 Calls_1 rest_1 Pre_1
      (fun tb e a s o t => postC L tb e a s o t ∧ Framed s o t (fieldLocs frame_1_writes a s ++ arrayLocs frame_1_arrays a s ++ staticLocs frame_1_statics s) 600000 7290000) := by
  intro l _ _ _ p e ha hc hk s m args below hf hfit hheap happ hpre
  obtain ⟨k, o, h1, h2, h3, rfl, hF⟩ := lw_comes l p e ha hc hk s m args below hf hfit hheap happ hpre
  exact ⟨k, _, h1, h2, h3, hL args s _, lw_frame hF⟩
theorem i_vc : Claimed_1_1 ∧ Claimed_1_2 := ⟨lw_limb limb_1_1 (fun args s t => by simp [limb_1_1, Cond.after, Cond.holds, Cond.value]), lw_limb limb_1_2 (fun args s t => Cond.after_iff.mpr (by
  first | (rw [show limb_1_2 = Cond.eq .result (.int 1) from rfl, Cond.eq_ints (x := 1) (y := 1) rfl rfl]; simp; done) | (simp [limb_1_2, Cond.value, Term.eval]; done)))⟩
end
