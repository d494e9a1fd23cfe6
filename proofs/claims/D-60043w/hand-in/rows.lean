section
-- ===== PART A: goes FIRST, ahead of the names: the tables' words, and 'selects' of the private methods out of them =====
/-- a private method of a class that the tables say can be made, by its rows of tables_1 -/
def lw_okq (q : MethodName × Nat) : Prop := (q.1.cls ≠ "java/lang/invoke/MethodHandle" ∧ q.1.cls ≠ "java/lang/invoke/VarHandle") ∧ Cond.instantiable q.1.cls q.2 ∈ tables_1 ∧ Cond.privateMethod q.1 ∈ tables_1 ∧ Cond.instanceMethod q.1 ∈ tables_1
set_option maxRecDepth 100000
theorem lw_p0 : lw_okq (⟨"PairDesk", "set", "(III)V"⟩, 10) := ⟨⟨by decide +kernel, by decide +kernel⟩, List.mem_of_getElem? (i := 5) rfl, List.mem_of_getElem? (i := 59) rfl, List.mem_of_getElem? (i := 60) rfl⟩
theorem lw_p1 : lw_okq (⟨"PairDesk", "place", "(I)V"⟩, 10) := ⟨⟨by decide +kernel, by decide +kernel⟩, List.mem_of_getElem? (i := 5) rfl, List.mem_of_getElem? (i := 70) rfl, List.mem_of_getElem? (i := 71) rfl⟩
theorem lw_p2 : lw_okq (⟨"PairDesk", "over", "(II)J"⟩, 10) := ⟨⟨by decide +kernel, by decide +kernel⟩, List.mem_of_getElem? (i := 5) rfl, List.mem_of_getElem? (i := 78) rfl, List.mem_of_getElem? (i := 79) rfl⟩
theorem lw_p3 : lw_okq (⟨"PairDesk", "order", "()V"⟩, 10) := ⟨⟨by decide +kernel, by decide +kernel⟩, List.mem_of_getElem? (i := 5) rfl, List.mem_of_getElem? (i := 82) rfl, List.mem_of_getElem? (i := 83) rfl⟩
theorem lw_p4 : lw_okq (⟨"PairDesk", "find", "(II)Z"⟩, 10) := ⟨⟨by decide +kernel, by decide +kernel⟩, List.mem_of_getElem? (i := 5) rfl, List.mem_of_getElem? (i := 86) rfl, List.mem_of_getElem? (i := 87) rfl⟩
theorem lw_p5 : lw_okq (⟨"PairDeskModel", "reckon", "()V"⟩, 5) := ⟨⟨by decide +kernel, by decide +kernel⟩, List.mem_of_getElem? (i := 95) rfl, List.mem_of_getElem? (i := 130) rfl, List.mem_of_getElem? (i := 131) rfl⟩
def lw_privs_1 : List (MethodName × Nat) := [(⟨"PairDesk", "set", "(III)V"⟩, 10), (⟨"PairDesk", "place", "(I)V"⟩, 10), (⟨"PairDesk", "over", "(II)J"⟩, 10), (⟨"PairDesk", "order", "()V"⟩, 10), (⟨"PairDesk", "find", "(II)Z"⟩, 10), (⟨"PairDeskModel", "reckon", "()V"⟩, 5)]
theorem lw_r1 : ∀ q ∈ lw_privs_1, lw_okq q := List.forall_mem_cons.mpr ⟨lw_p0, List.forall_mem_cons.mpr ⟨lw_p1, List.forall_mem_cons.mpr ⟨lw_p2, List.forall_mem_cons.mpr ⟨lw_p3, List.forall_mem_cons.mpr ⟨lw_p4, List.forall_mem_cons.mpr ⟨lw_p5, fun _ h => absurd h List.not_mem_nil⟩⟩⟩⟩⟩⟩
def lw_privs : List (MethodName × Nat) := lw_privs_1
def lw_tbl : List Cond := k2_sels lw_privs ++ tables_1
theorem lw_privs_ok : ∀ q ∈ lw_privs, lw_okq q := lw_r1
-- ===== ONE list of words for every method: the tables' words that hold all through a run =====
def lw_all : List Cond := lw_tbl.filter goodWord
/-- a word of the tables by its place: claim/WORDS.tsv -/
theorem lw_w {w : Cond} (i : Nat) (h : lw_tbl[i]? = some w) (g : goodWord w = true) : w ∈ lw_all := List.mem_filter.mpr ⟨List.mem_of_getElem? h, g⟩
theorem lw_all_tbl {w : Cond} (h : w ∈ lw_all) : w ∈ lw_tbl := (List.mem_filter.mp h).1
theorem lw_self : GoodIn lw_all lw_all := fun w h => ⟨h, good_of_word (List.mem_filter.mp h).2⟩
/-- a class's field words, by their places -/
theorem lw_in (ws : List Cond) (ps : List Nat) (hp : ws = ps.filterMap (fun i => lw_tbl[i]?)) (hg : ws.all goodWord = true) : ∀ w ∈ ws, w ∈ lw_all := by
  intro w h
  have h1 := List.all_eq_true.mp hg w h
  rw [hp] at h
  obtain ⟨i, -, hi⟩ := List.mem_filterMap.mp h
  exact lw_w i hi h1
/-- the words of a contract for the method y with code b, L locals, answer r -/
abbrev ws_ (y : MethodName) (b : ByteArray) (L : Nat) (r : Option FieldType) : List Cond := Cond.code y b L r :: lw_all
theorem lw_meth {y : MethodName} {b : ByteArray} {L : Nat} {r : Option FieldType} (h : Cond.code y b L r ∈ lw_all) : GoodIn lw_all (ws_ y b L r) := by
  intro w hw
  rcases List.mem_cons.mp hw with e | e
  · rw [e]
    exact lw_self _ h
  · exact lw_self _ e
theorem lw_app {a c : List Cond} (ha : ∀ w ∈ a, w ∈ lw_all) (hc : GoodIn lw_all c) : GoodIn lw_all (a ++ c) := by
  intro w hw
  rcases List.mem_append.mp hw with e | e
  · exact lw_self w (ha w e)
  · exact hc w e
/-- what a call through an object asks: cwV n hts (lw_V ..) -/
theorem lw_V {own : String} {idx : Nat} {C : String} {y : MethodName} {b : ByteArray} {L : Nat} {r : Option FieldType} (h1 : Cond.methodLink own idx y ∈ lw_all) (h2 : Cond.instanceMethod y ∈ lw_all) (h3 : Cond.selects C y y ∈ lw_all) (h4 : Cond.initialized C ∈ lw_all) (h5 : Cond.code y b L r ∈ lw_all) : GoodIn lw_all (wsV own idx C y (ws_ y b L r)) := by
  refine lw_app ?_ (lw_meth h5)
  intro w hw
  simp only [List.mem_cons, List.not_mem_nil, or_false] at hw
  rcases hw with e | e | e | e
  · rw [e]; exact h1
  · rw [e]; exact h2
  · rw [e]; exact h3
  · rw [e]; exact h4
/-- what a static call asks: va_cwS n hts (lw_S ..) -/
theorem lw_S {own : String} {idx : Nat} {y : MethodName} {b : ByteArray} {L : Nat} {r : Option FieldType} (h1 : Cond.methodLink own idx y ∈ lw_all) (h2 : Cond.static y ∈ lw_all) (h3 : Cond.initialized y.cls ∈ lw_all) (h4 : Cond.code y b L r ∈ lw_all) : GoodIn lw_all (va_wsS own idx y (ws_ y b L r)) := by
  refine lw_app ?_ (lw_meth h4)
  intro w hw
  simp only [List.mem_cons, List.not_mem_nil, or_false] at hw
  rcases hw with e | e | e
  · rw [e]; exact h1
  · rw [e]; exact h2
  · rw [e]; exact h3
/-- the words of a contract for a method WITH HANDLERS (hh: its table) -/
abbrev wsW_ (y : MethodName) (b : ByteArray) (L : Nat) (r : Option FieldType) (hh : List (Nat × Nat × Nat × Nat)) : List Cond := Cond.codeWith y b L r hh :: lw_all
theorem lw_methW {y : MethodName} {b : ByteArray} {L : Nat} {r : Option FieldType} {hh : List (Nat × Nat × Nat × Nat)} (h : Cond.codeWith y b L r hh ∈ lw_all) : GoodIn lw_all (wsW_ y b L r hh) := by
  intro w hw
  rcases List.mem_cons.mp hw with e | e
  · rw [e]
    exact lw_self _ h
  · exact lw_self _ e
/-- any list of words by their places (lw_in), good -/
theorem lw_good {ws : List Cond} (h : ∀ w ∈ ws, w ∈ lw_all) : GoodIn lw_all ws := fun w hw => lw_self w (h w hw)
/-- what a call of a method with handlers asks: vx_cwVW n hts (lw_VW ..), vx_cwSW n hts (lw_SW ..) -/
theorem lw_VW {own : String} {idx : Nat} {C : String} {y : MethodName} {b : ByteArray} {L : Nat} {r : Option FieldType} {hh : List (Nat × Nat × Nat × Nat)} (h1 : Cond.methodLink own idx y ∈ lw_all) (h2 : Cond.instanceMethod y ∈ lw_all) (h3 : Cond.selects C y y ∈ lw_all) (h4 : Cond.initialized C ∈ lw_all) (h5 : Cond.codeWith y b L r hh ∈ lw_all) : GoodIn lw_all (wsV own idx C y (wsW_ y b L r hh)) := by
  refine lw_app ?_ (lw_methW h5)
  intro w hw
  simp only [List.mem_cons, List.not_mem_nil, or_false] at hw
  rcases hw with e | e | e | e
  · rw [e]; exact h1
  · rw [e]; exact h2
  · rw [e]; exact h3
  · rw [e]; exact h4
theorem lw_SW {own : String} {idx : Nat} {y : MethodName} {b : ByteArray} {L : Nat} {r : Option FieldType} {hh : List (Nat × Nat × Nat × Nat)} (h1 : Cond.methodLink own idx y ∈ lw_all) (h2 : Cond.static y ∈ lw_all) (h3 : Cond.initialized y.cls ∈ lw_all) (h4 : Cond.codeWith y b L r hh ∈ lw_all) : GoodIn lw_all (va_wsS own idx y (wsW_ y b L r hh)) := by
  refine lw_app ?_ (lw_methW h4)
  intro w hw
  simp only [List.mem_cons, List.not_mem_nil, or_false] at hw
  rcases hw with e | e | e
  · rw [e]; exact h1
  · rw [e]; exact h2
  · rw [e]; exact h3
/-- a word by its place in its run of the tables -/
theorem lw_at {r : List Cond} (hr : ∀ w ∈ r, w ∈ lw_tbl) {w : Cond} (i : Nat) (h : r[i]? = some w) : w ∈ lw_tbl := hr w (List.mem_of_getElem? h)
theorem lw_g {w : Cond} (h : w ∈ lw_tbl) (g : goodWord w = true) : w ∈ lw_all := List.mem_filter.mpr ⟨h, g⟩
theorem lw_ms : ∀ w ∈ k2_sels lw_privs, w ∈ lw_tbl := fun w h => show w ∈ k2_sels lw_privs ++ tables_1 from List.mem_append_left _ h
theorem lw_m0 : ∀ w ∈ tables_1, w ∈ lw_tbl := fun w h => show w ∈ k2_sels lw_privs ++ tables_1 from List.mem_append_right (k2_sels lw_privs) h
theorem qs0 : (Cond.selects "PairDesk" ⟨"PairDesk", "set", "(III)V"⟩ ⟨"PairDesk", "set", "(III)V"⟩) ∈ lw_all := lw_g (lw_at lw_ms 0 rfl) rfl
theorem qs1 : (Cond.selects "PairDesk" ⟨"PairDesk", "place", "(I)V"⟩ ⟨"PairDesk", "place", "(I)V"⟩) ∈ lw_all := lw_g (lw_at lw_ms 1 rfl) rfl
theorem qs2 : (Cond.selects "PairDesk" ⟨"PairDesk", "over", "(II)J"⟩ ⟨"PairDesk", "over", "(II)J"⟩) ∈ lw_all := lw_g (lw_at lw_ms 2 rfl) rfl
theorem qs3 : (Cond.selects "PairDesk" ⟨"PairDesk", "order", "()V"⟩ ⟨"PairDesk", "order", "()V"⟩) ∈ lw_all := lw_g (lw_at lw_ms 3 rfl) rfl
theorem qs4 : (Cond.selects "PairDesk" ⟨"PairDesk", "find", "(II)Z"⟩ ⟨"PairDesk", "find", "(II)Z"⟩) ∈ lw_all := lw_g (lw_at lw_ms 4 rfl) rfl
theorem qs5 : (Cond.selects "PairDeskModel" ⟨"PairDeskModel", "reckon", "()V"⟩ ⟨"PairDeskModel", "reckon", "()V"⟩) ∈ lw_all := lw_g (lw_at lw_ms 5 rfl) rfl
end
section
/-! PairDesk -/
set_option maxRecDepth 100000
def RX0 : String := "PairDesk"
def TX0 : u_T := fun k => match k with
  | 0 => ("PairDesk", "cost", "[I", true)
  | 1 => ("PairDesk", "n", "I", false)
  | 2 => ("PairDesk", "reckoned", "Z", false)
  | 3 => ("PairDesk", "ofRow", "[J", true)
  | 4 => ("PairDesk", "ofColumn", "[J", true)
  | 5 => ("PairDesk", "rowOf", "[I", true)
  | 6 => ("PairDesk", "columnOf", "[I", true)
  | 7 => ("PairDesk", "way", "[J", true)
  | 8 => ("PairDesk", "before", "[I", true)
  | _ => ("PairDesk", "done", "[Z", true)
def tyX0 : Nat → FieldType := fun k => match k with
  | 0 => .array .int
  | 1 => .int
  | 2 => .boolean
  | 3 => .array .long
  | 4 => .array .long
  | 5 => .array .int
  | 6 => .array .int
  | 7 => .array .long
  | 8 => .array .int
  | _ => .array .boolean
abbrev wsX00 : List Cond := u_ws RX0 TX0 10
theorem nmX0 : ∀ a, a < 10 → ∀ b, b < 10 → a ≠ b → (TX0 a).2.1 ≠ (TX0 b).2.1 := by decide +kernel
theorem tyX0_ok : ∀ k, k < 10 → parseFieldDescriptor (TX0 k).2.2.1 = some (tyX0 k) := by decide +kernel
abbrev cX0_init : ByteArray := prog_1_method_1_code
def yX0_init : MethodName := ⟨RX0, "<init>", "()V"⟩
theorem dX0_init_0 : decode cX0_init 0 = .ok (.aload_n 0, 1) := by decide +kernel
theorem dX0_init_1 : decode cX0_init 1 = .ok (.invokespecial 3, 3) := by decide +kernel
theorem dX0_init_4 : decode cX0_init 4 = .ok (.aload_n 0, 1) := by decide +kernel
theorem dX0_init_5 : decode cX0_init 5 = .ok (.bipush 64, 2) := by decide +kernel
theorem dX0_init_7 : decode cX0_init 7 = .ok (.newarray .int, 2) := by decide +kernel
theorem dX0_init_9 : decode cX0_init 9 = .ok (.putfield 11, 3) := by decide +kernel
theorem dX0_init_12 : decode cX0_init 12 = .ok (.aload_n 0, 1) := by decide +kernel
theorem dX0_init_13 : decode cX0_init 13 = .ok (.iconst 1, 1) := by decide +kernel
theorem dX0_init_14 : decode cX0_init 14 = .ok (.putfield 15, 3) := by decide +kernel
theorem dX0_init_17 : decode cX0_init 17 = .ok (.aload_n 0, 1) := by decide +kernel
theorem dX0_init_18 : decode cX0_init 18 = .ok (.bipush 8, 2) := by decide +kernel
theorem dX0_init_20 : decode cX0_init 20 = .ok (.newarray .long, 2) := by decide +kernel
theorem dX0_init_22 : decode cX0_init 22 = .ok (.putfield 19, 3) := by decide +kernel
theorem dX0_init_25 : decode cX0_init 25 = .ok (.aload_n 0, 1) := by decide +kernel
theorem dX0_init_26 : decode cX0_init 26 = .ok (.bipush 9, 2) := by decide +kernel
theorem dX0_init_28 : decode cX0_init 28 = .ok (.newarray .long, 2) := by decide +kernel
theorem dX0_init_30 : decode cX0_init 30 = .ok (.putfield 23, 3) := by decide +kernel
theorem dX0_init_33 : decode cX0_init 33 = .ok (.aload_n 0, 1) := by decide +kernel
theorem dX0_init_34 : decode cX0_init 34 = .ok (.bipush 9, 2) := by decide +kernel
theorem dX0_init_36 : decode cX0_init 36 = .ok (.newarray .int, 2) := by decide +kernel
theorem dX0_init_38 : decode cX0_init 38 = .ok (.putfield 26, 3) := by decide +kernel
theorem dX0_init_41 : decode cX0_init 41 = .ok (.aload_n 0, 1) := by decide +kernel
theorem dX0_init_42 : decode cX0_init 42 = .ok (.bipush 8, 2) := by decide +kernel
theorem dX0_init_44 : decode cX0_init 44 = .ok (.newarray .int, 2) := by decide +kernel
theorem dX0_init_46 : decode cX0_init 46 = .ok (.putfield 29, 3) := by decide +kernel
theorem dX0_init_49 : decode cX0_init 49 = .ok (.aload_n 0, 1) := by decide +kernel
theorem dX0_init_50 : decode cX0_init 50 = .ok (.bipush 8, 2) := by decide +kernel
theorem dX0_init_52 : decode cX0_init 52 = .ok (.newarray .long, 2) := by decide +kernel
theorem dX0_init_54 : decode cX0_init 54 = .ok (.putfield 32, 3) := by decide +kernel
theorem dX0_init_57 : decode cX0_init 57 = .ok (.aload_n 0, 1) := by decide +kernel
theorem dX0_init_58 : decode cX0_init 58 = .ok (.bipush 8, 2) := by decide +kernel
theorem dX0_init_60 : decode cX0_init 60 = .ok (.newarray .int, 2) := by decide +kernel
theorem dX0_init_62 : decode cX0_init 62 = .ok (.putfield 35, 3) := by decide +kernel
theorem dX0_init_65 : decode cX0_init 65 = .ok (.aload_n 0, 1) := by decide +kernel
theorem dX0_init_66 : decode cX0_init 66 = .ok (.bipush 9, 2) := by decide +kernel
theorem dX0_init_68 : decode cX0_init 68 = .ok (.newarray .boolean, 2) := by decide +kernel
theorem dX0_init_70 : decode cX0_init 70 = .ok (.putfield 38, 3) := by decide +kernel
theorem dX0_init_73 : decode cX0_init 73 = .ok (.return_, 1) := by decide +kernel
abbrev cX0_size : ByteArray := prog_1_method_2_code
def yX0_size : MethodName := ⟨RX0, "size", "(I)V"⟩
theorem dX0_size_0 : decode cX0_size 0 = .ok (.aload_n 0, 1) := by decide +kernel
theorem dX0_size_1 : decode cX0_size 1 = .ok (.iconst 1, 1) := by decide +kernel
theorem dX0_size_2 : decode cX0_size 2 = .ok (.iload_n 1, 1) := by decide +kernel
theorem dX0_size_3 : decode cX0_size 3 = .ok (.bipush 7, 2) := by decide +kernel
theorem dX0_size_5 : decode cX0_size 5 = .ok (.iand, 1) := by decide +kernel
theorem dX0_size_6 : decode cX0_size 6 = .ok (.iadd, 1) := by decide +kernel
theorem dX0_size_7 : decode cX0_size 7 = .ok (.putfield 15, 3) := by decide +kernel
theorem dX0_size_10 : decode cX0_size 10 = .ok (.aload_n 0, 1) := by decide +kernel
theorem dX0_size_11 : decode cX0_size 11 = .ok (.getfield 11, 3) := by decide +kernel
theorem dX0_size_14 : decode cX0_size 14 = .ok (.iconst 0, 1) := by decide +kernel
theorem dX0_size_15 : decode cX0_size 15 = .ok (.invokestatic 42, 3) := by decide +kernel
theorem dX0_size_18 : decode cX0_size 18 = .ok (.aload_n 0, 1) := by decide +kernel
theorem dX0_size_19 : decode cX0_size 19 = .ok (.iconst 0, 1) := by decide +kernel
theorem dX0_size_20 : decode cX0_size 20 = .ok (.putfield 48, 3) := by decide +kernel
theorem dX0_size_23 : decode cX0_size 23 = .ok (.return_, 1) := by decide +kernel
abbrev cX0_cost : ByteArray := prog_1_method_3_code
def yX0_cost : MethodName := ⟨RX0, "cost", "(IIIII)V"⟩
theorem dX0_cost_0 : decode cX0_cost 0 = .ok (.iload_n 1, 1) := by decide +kernel
theorem dX0_cost_1 : decode cX0_cost 1 = .ok (.iconst 1, 1) := by decide +kernel
theorem dX0_cost_2 : decode cX0_cost 2 = .ok (.ishr, 1) := by decide +kernel
theorem dX0_cost_3 : decode cX0_cost 3 = .ok (.ldc 52, 2) := by decide +kernel
theorem dX0_cost_5 : decode cX0_cost 5 = .ok (.iand, 1) := by decide +kernel
theorem dX0_cost_6 : decode cX0_cost 6 = .ok (.aload_n 0, 1) := by decide +kernel
theorem dX0_cost_7 : decode cX0_cost 7 = .ok (.getfield 15, 3) := by decide +kernel
theorem dX0_cost_10 : decode cX0_cost 10 = .ok (.irem, 1) := by decide +kernel
theorem dX0_cost_11 : decode cX0_cost 11 = .ok (.istore 6, 2) := by decide +kernel
theorem dX0_cost_13 : decode cX0_cost 13 = .ok (.iconst 4, 1) := by decide +kernel
theorem dX0_cost_14 : decode cX0_cost 14 = .ok (.iload_n 1, 1) := by decide +kernel
theorem dX0_cost_15 : decode cX0_cost 15 = .ok (.iconst 1, 1) := by decide +kernel
theorem dX0_cost_16 : decode cX0_cost 16 = .ok (.iand, 1) := by decide +kernel
theorem dX0_cost_17 : decode cX0_cost 17 = .ok (.imul, 1) := by decide +kernel
theorem dX0_cost_18 : decode cX0_cost 18 = .ok (.istore 7, 2) := by decide +kernel
theorem dX0_cost_20 : decode cX0_cost 20 = .ok (.aload_n 0, 1) := by decide +kernel
theorem dX0_cost_21 : decode cX0_cost 21 = .ok (.iload 6, 2) := by decide +kernel
theorem dX0_cost_23 : decode cX0_cost 23 = .ok (.iload 7, 2) := by decide +kernel
theorem dX0_cost_25 : decode cX0_cost 25 = .ok (.iload_n 2, 1) := by decide +kernel
theorem dX0_cost_26 : decode cX0_cost 26 = .ok (.invokevirtual 53, 3) := by decide +kernel
theorem dX0_cost_29 : decode cX0_cost 29 = .ok (.aload_n 0, 1) := by decide +kernel
theorem dX0_cost_30 : decode cX0_cost 30 = .ok (.iload 6, 2) := by decide +kernel
theorem dX0_cost_32 : decode cX0_cost 32 = .ok (.iload 7, 2) := by decide +kernel
theorem dX0_cost_34 : decode cX0_cost 34 = .ok (.iconst 1, 1) := by decide +kernel
theorem dX0_cost_35 : decode cX0_cost 35 = .ok (.iadd, 1) := by decide +kernel
theorem dX0_cost_36 : decode cX0_cost 36 = .ok (.iload_n 3, 1) := by decide +kernel
theorem dX0_cost_37 : decode cX0_cost 37 = .ok (.invokevirtual 53, 3) := by decide +kernel
theorem dX0_cost_40 : decode cX0_cost 40 = .ok (.aload_n 0, 1) := by decide +kernel
theorem dX0_cost_41 : decode cX0_cost 41 = .ok (.iload 6, 2) := by decide +kernel
theorem dX0_cost_43 : decode cX0_cost 43 = .ok (.iload 7, 2) := by decide +kernel
theorem dX0_cost_45 : decode cX0_cost 45 = .ok (.iconst 2, 1) := by decide +kernel
theorem dX0_cost_46 : decode cX0_cost 46 = .ok (.iadd, 1) := by decide +kernel
theorem dX0_cost_47 : decode cX0_cost 47 = .ok (.iload 4, 2) := by decide +kernel
theorem dX0_cost_49 : decode cX0_cost 49 = .ok (.invokevirtual 53, 3) := by decide +kernel
theorem dX0_cost_52 : decode cX0_cost 52 = .ok (.aload_n 0, 1) := by decide +kernel
theorem dX0_cost_53 : decode cX0_cost 53 = .ok (.iload 6, 2) := by decide +kernel
theorem dX0_cost_55 : decode cX0_cost 55 = .ok (.iload 7, 2) := by decide +kernel
theorem dX0_cost_57 : decode cX0_cost 57 = .ok (.iconst 3, 1) := by decide +kernel
theorem dX0_cost_58 : decode cX0_cost 58 = .ok (.iadd, 1) := by decide +kernel
theorem dX0_cost_59 : decode cX0_cost 59 = .ok (.iload 5, 2) := by decide +kernel
theorem dX0_cost_61 : decode cX0_cost 61 = .ok (.invokevirtual 53, 3) := by decide +kernel
theorem dX0_cost_64 : decode cX0_cost 64 = .ok (.aload_n 0, 1) := by decide +kernel
theorem dX0_cost_65 : decode cX0_cost 65 = .ok (.iconst 0, 1) := by decide +kernel
theorem dX0_cost_66 : decode cX0_cost 66 = .ok (.putfield 48, 3) := by decide +kernel
theorem dX0_cost_69 : decode cX0_cost 69 = .ok (.return_, 1) := by decide +kernel
abbrev cX0_set : ByteArray := prog_1_method_4_code
def yX0_set : MethodName := ⟨RX0, "set", "(III)V"⟩
theorem dX0_set_0 : decode cX0_set 0 = .ok (.iload_n 2, 1) := by decide +kernel
theorem dX0_set_1 : decode cX0_set 1 = .ok (.aload_n 0, 1) := by decide +kernel
theorem dX0_set_2 : decode cX0_set 2 = .ok (.getfield 15, 3) := by decide +kernel
theorem dX0_set_5 : decode cX0_set 5 = .ok (.if_icmp .ge 15, 3) := by decide +kernel
theorem dX0_set_8 : decode cX0_set 8 = .ok (.aload_n 0, 1) := by decide +kernel
theorem dX0_set_9 : decode cX0_set 9 = .ok (.getfield 11, 3) := by decide +kernel
theorem dX0_set_12 : decode cX0_set 12 = .ok (.bipush 8, 2) := by decide +kernel
theorem dX0_set_14 : decode cX0_set 14 = .ok (.iload_n 1, 1) := by decide +kernel
theorem dX0_set_15 : decode cX0_set 15 = .ok (.imul, 1) := by decide +kernel
theorem dX0_set_16 : decode cX0_set 16 = .ok (.iload_n 2, 1) := by decide +kernel
theorem dX0_set_17 : decode cX0_set 17 = .ok (.iadd, 1) := by decide +kernel
theorem dX0_set_18 : decode cX0_set 18 = .ok (.iload_n 3, 1) := by decide +kernel
theorem dX0_set_19 : decode cX0_set 19 = .ok (.iastore, 1) := by decide +kernel
theorem dX0_set_20 : decode cX0_set 20 = .ok (.return_, 1) := by decide +kernel
abbrev cX0_least : ByteArray := prog_1_method_9_code
def yX0_least : MethodName := ⟨RX0, "least", "()J"⟩
theorem dX0_least_0 : decode cX0_least 0 = .ok (.aload_n 0, 1) := by decide +kernel
theorem dX0_least_1 : decode cX0_least 1 = .ok (.getfield 19, 3) := by decide +kernel
theorem dX0_least_4 : decode cX0_least 4 = .ok (.lconst 0, 1) := by decide +kernel
theorem dX0_least_5 : decode cX0_least 5 = .ok (.invokestatic 59, 3) := by decide +kernel
theorem dX0_least_8 : decode cX0_least 8 = .ok (.aload_n 0, 1) := by decide +kernel
theorem dX0_least_9 : decode cX0_least 9 = .ok (.getfield 23, 3) := by decide +kernel
theorem dX0_least_12 : decode cX0_least 12 = .ok (.lconst 0, 1) := by decide +kernel
theorem dX0_least_13 : decode cX0_least 13 = .ok (.invokestatic 59, 3) := by decide +kernel
theorem dX0_least_16 : decode cX0_least 16 = .ok (.aload_n 0, 1) := by decide +kernel
theorem dX0_least_17 : decode cX0_least 17 = .ok (.getfield 26, 3) := by decide +kernel
theorem dX0_least_20 : decode cX0_least 20 = .ok (.iconst (-1), 1) := by decide +kernel
theorem dX0_least_21 : decode cX0_least 21 = .ok (.invokestatic 42, 3) := by decide +kernel
theorem dX0_least_24 : decode cX0_least 24 = .ok (.iconst 0, 1) := by decide +kernel
theorem dX0_least_25 : decode cX0_least 25 = .ok (.istore_n 1, 1) := by decide +kernel
theorem dX0_least_26 : decode cX0_least 26 = .ok (.iload_n 1, 1) := by decide +kernel
theorem dX0_least_27 : decode cX0_least 27 = .ok (.aload_n 0, 1) := by decide +kernel
theorem dX0_least_28 : decode cX0_least 28 = .ok (.getfield 15, 3) := by decide +kernel
theorem dX0_least_31 : decode cX0_least 31 = .ok (.if_icmp .ge 14, 3) := by decide +kernel
theorem dX0_least_34 : decode cX0_least 34 = .ok (.aload_n 0, 1) := by decide +kernel
theorem dX0_least_35 : decode cX0_least 35 = .ok (.iload_n 1, 1) := by decide +kernel
theorem dX0_least_36 : decode cX0_least 36 = .ok (.invokevirtual 73, 3) := by decide +kernel
theorem dX0_least_39 : decode cX0_least 39 = .ok (.iinc 1 1, 3) := by decide +kernel
theorem dX0_least_42 : decode cX0_least 42 = .ok (.goto (-16), 3) := by decide +kernel
theorem dX0_least_45 : decode cX0_least 45 = .ok (.aload_n 0, 1) := by decide +kernel
theorem dX0_least_46 : decode cX0_least 46 = .ok (.invokevirtual 77, 3) := by decide +kernel
theorem dX0_least_49 : decode cX0_least 49 = .ok (.aload_n 0, 1) := by decide +kernel
theorem dX0_least_50 : decode cX0_least 50 = .ok (.iconst 1, 1) := by decide +kernel
theorem dX0_least_51 : decode cX0_least 51 = .ok (.putfield 48, 3) := by decide +kernel
theorem dX0_least_54 : decode cX0_least 54 = .ok (.lconst 0, 1) := by decide +kernel
theorem dX0_least_55 : decode cX0_least 55 = .ok (.lstore_n 1, 1) := by decide +kernel
theorem dX0_least_56 : decode cX0_least 56 = .ok (.iconst 0, 1) := by decide +kernel
theorem dX0_least_57 : decode cX0_least 57 = .ok (.istore_n 3, 1) := by decide +kernel
theorem dX0_least_58 : decode cX0_least 58 = .ok (.iload_n 3, 1) := by decide +kernel
theorem dX0_least_59 : decode cX0_least 59 = .ok (.aload_n 0, 1) := by decide +kernel
theorem dX0_least_60 : decode cX0_least 60 = .ok (.getfield 15, 3) := by decide +kernel
theorem dX0_least_63 : decode cX0_least 63 = .ok (.if_icmp .ge 29, 3) := by decide +kernel
theorem dX0_least_66 : decode cX0_least 66 = .ok (.lload_n 1, 1) := by decide +kernel
theorem dX0_least_67 : decode cX0_least 67 = .ok (.aload_n 0, 1) := by decide +kernel
theorem dX0_least_68 : decode cX0_least 68 = .ok (.getfield 11, 3) := by decide +kernel
theorem dX0_least_71 : decode cX0_least 71 = .ok (.bipush 8, 2) := by decide +kernel
theorem dX0_least_73 : decode cX0_least 73 = .ok (.iload_n 3, 1) := by decide +kernel
theorem dX0_least_74 : decode cX0_least 74 = .ok (.imul, 1) := by decide +kernel
theorem dX0_least_75 : decode cX0_least 75 = .ok (.aload_n 0, 1) := by decide +kernel
theorem dX0_least_76 : decode cX0_least 76 = .ok (.getfield 29, 3) := by decide +kernel
theorem dX0_least_79 : decode cX0_least 79 = .ok (.iload_n 3, 1) := by decide +kernel
theorem dX0_least_80 : decode cX0_least 80 = .ok (.iaload, 1) := by decide +kernel
theorem dX0_least_81 : decode cX0_least 81 = .ok (.iadd, 1) := by decide +kernel
theorem dX0_least_82 : decode cX0_least 82 = .ok (.iaload, 1) := by decide +kernel
theorem dX0_least_83 : decode cX0_least 83 = .ok (.i2l, 1) := by decide +kernel
theorem dX0_least_84 : decode cX0_least 84 = .ok (.ladd, 1) := by decide +kernel
theorem dX0_least_85 : decode cX0_least 85 = .ok (.lstore_n 1, 1) := by decide +kernel
theorem dX0_least_86 : decode cX0_least 86 = .ok (.iinc 3 1, 3) := by decide +kernel
theorem dX0_least_89 : decode cX0_least 89 = .ok (.goto (-31), 3) := by decide +kernel
theorem dX0_least_92 : decode cX0_least 92 = .ok (.lload_n 1, 1) := by decide +kernel
theorem dX0_least_93 : decode cX0_least 93 = .ok (.lreturn, 1) := by decide +kernel
abbrev cX0_place : ByteArray := prog_1_method_6_code
def yX0_place : MethodName := ⟨RX0, "place", "(I)V"⟩
theorem dX0_place_0 : decode cX0_place 0 = .ok (.aload_n 0, 1) := by decide +kernel
theorem dX0_place_1 : decode cX0_place 1 = .ok (.getfield 32, 3) := by decide +kernel
theorem dX0_place_4 : decode cX0_place 4 = .ok (.ldc2_w 57, 3) := by decide +kernel
theorem dX0_place_7 : decode cX0_place 7 = .ok (.invokestatic 59, 3) := by decide +kernel
theorem dX0_place_10 : decode cX0_place 10 = .ok (.aload_n 0, 1) := by decide +kernel
theorem dX0_place_11 : decode cX0_place 11 = .ok (.getfield 38, 3) := by decide +kernel
theorem dX0_place_14 : decode cX0_place 14 = .ok (.iconst 0, 1) := by decide +kernel
theorem dX0_place_15 : decode cX0_place 15 = .ok (.invokestatic 62, 3) := by decide +kernel
theorem dX0_place_18 : decode cX0_place 18 = .ok (.aload_n 0, 1) := by decide +kernel
theorem dX0_place_19 : decode cX0_place 19 = .ok (.getfield 26, 3) := by decide +kernel
theorem dX0_place_22 : decode cX0_place 22 = .ok (.bipush 8, 2) := by decide +kernel
theorem dX0_place_24 : decode cX0_place 24 = .ok (.iload_n 1, 1) := by decide +kernel
theorem dX0_place_25 : decode cX0_place 25 = .ok (.iastore, 1) := by decide +kernel
theorem dX0_place_26 : decode cX0_place 26 = .ok (.bipush 8, 2) := by decide +kernel
theorem dX0_place_28 : decode cX0_place 28 = .ok (.istore_n 2, 1) := by decide +kernel
theorem dX0_place_29 : decode cX0_place 29 = .ok (.aload_n 0, 1) := by decide +kernel
theorem dX0_place_30 : decode cX0_place 30 = .ok (.getfield 26, 3) := by decide +kernel
theorem dX0_place_33 : decode cX0_place 33 = .ok (.iload_n 2, 1) := by decide +kernel
theorem dX0_place_34 : decode cX0_place 34 = .ok (.iaload, 1) := by decide +kernel
theorem dX0_place_35 : decode cX0_place 35 = .ok (.ifCond .lt 221, 3) := by decide +kernel
theorem dX0_place_38 : decode cX0_place 38 = .ok (.aload_n 0, 1) := by decide +kernel
theorem dX0_place_39 : decode cX0_place 39 = .ok (.getfield 38, 3) := by decide +kernel
theorem dX0_place_42 : decode cX0_place 42 = .ok (.iload_n 2, 1) := by decide +kernel
theorem dX0_place_43 : decode cX0_place 43 = .ok (.iconst 1, 1) := by decide +kernel
theorem dX0_place_44 : decode cX0_place 44 = .ok (.bastore, 1) := by decide +kernel
theorem dX0_place_45 : decode cX0_place 45 = .ok (.aload_n 0, 1) := by decide +kernel
theorem dX0_place_46 : decode cX0_place 46 = .ok (.getfield 26, 3) := by decide +kernel
theorem dX0_place_49 : decode cX0_place 49 = .ok (.iload_n 2, 1) := by decide +kernel
theorem dX0_place_50 : decode cX0_place 50 = .ok (.iaload, 1) := by decide +kernel
theorem dX0_place_51 : decode cX0_place 51 = .ok (.istore_n 3, 1) := by decide +kernel
theorem dX0_place_52 : decode cX0_place 52 = .ok (.iconst (-1), 1) := by decide +kernel
theorem dX0_place_53 : decode cX0_place 53 = .ok (.istore 4, 2) := by decide +kernel
theorem dX0_place_55 : decode cX0_place 55 = .ok (.iconst 0, 1) := by decide +kernel
theorem dX0_place_56 : decode cX0_place 56 = .ok (.istore 5, 2) := by decide +kernel
theorem dX0_place_58 : decode cX0_place 58 = .ok (.iload 5, 2) := by decide +kernel
theorem dX0_place_60 : decode cX0_place 60 = .ok (.aload_n 0, 1) := by decide +kernel
theorem dX0_place_61 : decode cX0_place 61 = .ok (.getfield 15, 3) := by decide +kernel
theorem dX0_place_64 : decode cX0_place 64 = .ok (.if_icmp .ge 88, 3) := by decide +kernel
theorem dX0_place_67 : decode cX0_place 67 = .ok (.aload_n 0, 1) := by decide +kernel
theorem dX0_place_68 : decode cX0_place 68 = .ok (.getfield 38, 3) := by decide +kernel
theorem dX0_place_71 : decode cX0_place 71 = .ok (.iload 5, 2) := by decide +kernel
theorem dX0_place_73 : decode cX0_place 73 = .ok (.baload, 1) := by decide +kernel
theorem dX0_place_74 : decode cX0_place 74 = .ok (.ifCond .eq 6, 3) := by decide +kernel
theorem dX0_place_77 : decode cX0_place 77 = .ok (.goto 69, 3) := by decide +kernel
theorem dX0_place_80 : decode cX0_place 80 = .ok (.aload_n 0, 1) := by decide +kernel
theorem dX0_place_81 : decode cX0_place 81 = .ok (.iload_n 3, 1) := by decide +kernel
theorem dX0_place_82 : decode cX0_place 82 = .ok (.iload 5, 2) := by decide +kernel
theorem dX0_place_84 : decode cX0_place 84 = .ok (.invokevirtual 65, 3) := by decide +kernel
theorem dX0_place_87 : decode cX0_place 87 = .ok (.lstore 6, 2) := by decide +kernel
theorem dX0_place_89 : decode cX0_place 89 = .ok (.lload 6, 2) := by decide +kernel
theorem dX0_place_91 : decode cX0_place 91 = .ok (.aload_n 0, 1) := by decide +kernel
theorem dX0_place_92 : decode cX0_place 92 = .ok (.getfield 32, 3) := by decide +kernel
theorem dX0_place_95 : decode cX0_place 95 = .ok (.iload 5, 2) := by decide +kernel
theorem dX0_place_97 : decode cX0_place 97 = .ok (.laload, 1) := by decide +kernel
theorem dX0_place_98 : decode cX0_place 98 = .ok (.lcmp, 1) := by decide +kernel
theorem dX0_place_99 : decode cX0_place 99 = .ok (.ifCond .ge 20, 3) := by decide +kernel
theorem dX0_place_102 : decode cX0_place 102 = .ok (.aload_n 0, 1) := by decide +kernel
theorem dX0_place_103 : decode cX0_place 103 = .ok (.getfield 32, 3) := by decide +kernel
theorem dX0_place_106 : decode cX0_place 106 = .ok (.iload 5, 2) := by decide +kernel
theorem dX0_place_108 : decode cX0_place 108 = .ok (.lload 6, 2) := by decide +kernel
theorem dX0_place_110 : decode cX0_place 110 = .ok (.lastore, 1) := by decide +kernel
theorem dX0_place_111 : decode cX0_place 111 = .ok (.aload_n 0, 1) := by decide +kernel
theorem dX0_place_112 : decode cX0_place 112 = .ok (.getfield 35, 3) := by decide +kernel
theorem dX0_place_115 : decode cX0_place 115 = .ok (.iload 5, 2) := by decide +kernel
theorem dX0_place_117 : decode cX0_place 117 = .ok (.iload_n 2, 1) := by decide +kernel
theorem dX0_place_118 : decode cX0_place 118 = .ok (.iastore, 1) := by decide +kernel
theorem dX0_place_119 : decode cX0_place 119 = .ok (.iload 4, 2) := by decide +kernel
theorem dX0_place_121 : decode cX0_place 121 = .ok (.ifCond .lt 21, 3) := by decide +kernel
theorem dX0_place_124 : decode cX0_place 124 = .ok (.aload_n 0, 1) := by decide +kernel
theorem dX0_place_125 : decode cX0_place 125 = .ok (.getfield 32, 3) := by decide +kernel
theorem dX0_place_128 : decode cX0_place 128 = .ok (.iload 5, 2) := by decide +kernel
theorem dX0_place_130 : decode cX0_place 130 = .ok (.laload, 1) := by decide +kernel
theorem dX0_place_131 : decode cX0_place 131 = .ok (.aload_n 0, 1) := by decide +kernel
theorem dX0_place_132 : decode cX0_place 132 = .ok (.getfield 32, 3) := by decide +kernel
theorem dX0_place_135 : decode cX0_place 135 = .ok (.iload 4, 2) := by decide +kernel
theorem dX0_place_137 : decode cX0_place 137 = .ok (.laload, 1) := by decide +kernel
theorem dX0_place_138 : decode cX0_place 138 = .ok (.lcmp, 1) := by decide +kernel
theorem dX0_place_139 : decode cX0_place 139 = .ok (.ifCond .ge 7, 3) := by decide +kernel
theorem dX0_place_142 : decode cX0_place 142 = .ok (.iload 5, 2) := by decide +kernel
theorem dX0_place_144 : decode cX0_place 144 = .ok (.istore 4, 2) := by decide +kernel
theorem dX0_place_146 : decode cX0_place 146 = .ok (.iinc 5 1, 3) := by decide +kernel
theorem dX0_place_149 : decode cX0_place 149 = .ok (.goto (-91), 3) := by decide +kernel
theorem dX0_place_152 : decode cX0_place 152 = .ok (.aload_n 0, 1) := by decide +kernel
theorem dX0_place_153 : decode cX0_place 153 = .ok (.getfield 32, 3) := by decide +kernel
theorem dX0_place_156 : decode cX0_place 156 = .ok (.iload 4, 2) := by decide +kernel
theorem dX0_place_158 : decode cX0_place 158 = .ok (.laload, 1) := by decide +kernel
theorem dX0_place_159 : decode cX0_place 159 = .ok (.lstore 5, 2) := by decide +kernel
theorem dX0_place_161 : decode cX0_place 161 = .ok (.iconst 0, 1) := by decide +kernel
theorem dX0_place_162 : decode cX0_place 162 = .ok (.istore 7, 2) := by decide +kernel
theorem dX0_place_164 : decode cX0_place 164 = .ok (.iload 7, 2) := by decide +kernel
theorem dX0_place_166 : decode cX0_place 166 = .ok (.bipush 8, 2) := by decide +kernel
theorem dX0_place_168 : decode cX0_place 168 = .ok (.if_icmp .gt 82, 3) := by decide +kernel
theorem dX0_place_171 : decode cX0_place 171 = .ok (.iload 7, 2) := by decide +kernel
theorem dX0_place_173 : decode cX0_place 173 = .ok (.aload_n 0, 1) := by decide +kernel
theorem dX0_place_174 : decode cX0_place 174 = .ok (.getfield 15, 3) := by decide +kernel
theorem dX0_place_177 : decode cX0_place 177 = .ok (.if_icmp .ge 25, 3) := by decide +kernel
theorem dX0_place_180 : decode cX0_place 180 = .ok (.aload_n 0, 1) := by decide +kernel
theorem dX0_place_181 : decode cX0_place 181 = .ok (.getfield 38, 3) := by decide +kernel
theorem dX0_place_184 : decode cX0_place 184 = .ok (.iload 7, 2) := by decide +kernel
theorem dX0_place_186 : decode cX0_place 186 = .ok (.baload, 1) := by decide +kernel
theorem dX0_place_187 : decode cX0_place 187 = .ok (.ifCond .ne 15, 3) := by decide +kernel
theorem dX0_place_190 : decode cX0_place 190 = .ok (.aload_n 0, 1) := by decide +kernel
theorem dX0_place_191 : decode cX0_place 191 = .ok (.getfield 32, 3) := by decide +kernel
theorem dX0_place_194 : decode cX0_place 194 = .ok (.iload 7, 2) := by decide +kernel
theorem dX0_place_196 : decode cX0_place 196 = .ok (.dup2, 1) := by decide +kernel
theorem dX0_place_197 : decode cX0_place 197 = .ok (.laload, 1) := by decide +kernel
theorem dX0_place_198 : decode cX0_place 198 = .ok (.lload 5, 2) := by decide +kernel
theorem dX0_place_200 : decode cX0_place 200 = .ok (.lsub, 1) := by decide +kernel
theorem dX0_place_201 : decode cX0_place 201 = .ok (.lastore, 1) := by decide +kernel
theorem dX0_place_202 : decode cX0_place 202 = .ok (.aload_n 0, 1) := by decide +kernel
theorem dX0_place_203 : decode cX0_place 203 = .ok (.getfield 38, 3) := by decide +kernel
theorem dX0_place_206 : decode cX0_place 206 = .ok (.iload 7, 2) := by decide +kernel
theorem dX0_place_208 : decode cX0_place 208 = .ok (.baload, 1) := by decide +kernel
theorem dX0_place_209 : decode cX0_place 209 = .ok (.ifCond .ne 6, 3) := by decide +kernel
theorem dX0_place_212 : decode cX0_place 212 = .ok (.goto 32, 3) := by decide +kernel
theorem dX0_place_215 : decode cX0_place 215 = .ok (.aload_n 0, 1) := by decide +kernel
theorem dX0_place_216 : decode cX0_place 216 = .ok (.getfield 19, 3) := by decide +kernel
theorem dX0_place_219 : decode cX0_place 219 = .ok (.aload_n 0, 1) := by decide +kernel
theorem dX0_place_220 : decode cX0_place 220 = .ok (.getfield 26, 3) := by decide +kernel
theorem dX0_place_223 : decode cX0_place 223 = .ok (.iload 7, 2) := by decide +kernel
theorem dX0_place_225 : decode cX0_place 225 = .ok (.iaload, 1) := by decide +kernel
theorem dX0_place_226 : decode cX0_place 226 = .ok (.dup2, 1) := by decide +kernel
theorem dX0_place_227 : decode cX0_place 227 = .ok (.laload, 1) := by decide +kernel
theorem dX0_place_228 : decode cX0_place 228 = .ok (.lload 5, 2) := by decide +kernel
theorem dX0_place_230 : decode cX0_place 230 = .ok (.ladd, 1) := by decide +kernel
theorem dX0_place_231 : decode cX0_place 231 = .ok (.lastore, 1) := by decide +kernel
theorem dX0_place_232 : decode cX0_place 232 = .ok (.aload_n 0, 1) := by decide +kernel
theorem dX0_place_233 : decode cX0_place 233 = .ok (.getfield 23, 3) := by decide +kernel
theorem dX0_place_236 : decode cX0_place 236 = .ok (.iload 7, 2) := by decide +kernel
theorem dX0_place_238 : decode cX0_place 238 = .ok (.dup2, 1) := by decide +kernel
theorem dX0_place_239 : decode cX0_place 239 = .ok (.laload, 1) := by decide +kernel
theorem dX0_place_240 : decode cX0_place 240 = .ok (.lload 5, 2) := by decide +kernel
theorem dX0_place_242 : decode cX0_place 242 = .ok (.lsub, 1) := by decide +kernel
theorem dX0_place_243 : decode cX0_place 243 = .ok (.lastore, 1) := by decide +kernel
theorem dX0_place_244 : decode cX0_place 244 = .ok (.iinc 7 1, 3) := by decide +kernel
theorem dX0_place_247 : decode cX0_place 247 = .ok (.goto (-83), 3) := by decide +kernel
theorem dX0_place_250 : decode cX0_place 250 = .ok (.iload 4, 2) := by decide +kernel
theorem dX0_place_252 : decode cX0_place 252 = .ok (.istore_n 2, 1) := by decide +kernel
theorem dX0_place_253 : decode cX0_place 253 = .ok (.goto (-224), 3) := by decide +kernel
theorem dX0_place_256 : decode cX0_place 256 = .ok (.iload_n 2, 1) := by decide +kernel
theorem dX0_place_257 : decode cX0_place 257 = .ok (.bipush 8, 2) := by decide +kernel
theorem dX0_place_259 : decode cX0_place 259 = .ok (.if_icmp .eq 30, 3) := by decide +kernel
theorem dX0_place_262 : decode cX0_place 262 = .ok (.aload_n 0, 1) := by decide +kernel
theorem dX0_place_263 : decode cX0_place 263 = .ok (.getfield 26, 3) := by decide +kernel
theorem dX0_place_266 : decode cX0_place 266 = .ok (.iload_n 2, 1) := by decide +kernel
theorem dX0_place_267 : decode cX0_place 267 = .ok (.aload_n 0, 1) := by decide +kernel
theorem dX0_place_268 : decode cX0_place 268 = .ok (.getfield 26, 3) := by decide +kernel
theorem dX0_place_271 : decode cX0_place 271 = .ok (.aload_n 0, 1) := by decide +kernel
theorem dX0_place_272 : decode cX0_place 272 = .ok (.getfield 35, 3) := by decide +kernel
theorem dX0_place_275 : decode cX0_place 275 = .ok (.iload_n 2, 1) := by decide +kernel
theorem dX0_place_276 : decode cX0_place 276 = .ok (.iaload, 1) := by decide +kernel
theorem dX0_place_277 : decode cX0_place 277 = .ok (.iaload, 1) := by decide +kernel
theorem dX0_place_278 : decode cX0_place 278 = .ok (.iastore, 1) := by decide +kernel
theorem dX0_place_279 : decode cX0_place 279 = .ok (.aload_n 0, 1) := by decide +kernel
theorem dX0_place_280 : decode cX0_place 280 = .ok (.getfield 35, 3) := by decide +kernel
theorem dX0_place_283 : decode cX0_place 283 = .ok (.iload_n 2, 1) := by decide +kernel
theorem dX0_place_284 : decode cX0_place 284 = .ok (.iaload, 1) := by decide +kernel
theorem dX0_place_285 : decode cX0_place 285 = .ok (.istore_n 2, 1) := by decide +kernel
theorem dX0_place_286 : decode cX0_place 286 = .ok (.goto (-30), 3) := by decide +kernel
theorem dX0_place_289 : decode cX0_place 289 = .ok (.return_, 1) := by decide +kernel
abbrev cX0_over : ByteArray := prog_1_method_5_code
def yX0_over : MethodName := ⟨RX0, "over", "(II)J"⟩
theorem dX0_over_0 : decode cX0_over 0 = .ok (.aload_n 0, 1) := by decide +kernel
theorem dX0_over_1 : decode cX0_over 1 = .ok (.getfield 11, 3) := by decide +kernel
theorem dX0_over_4 : decode cX0_over 4 = .ok (.bipush 8, 2) := by decide +kernel
theorem dX0_over_6 : decode cX0_over 6 = .ok (.iload_n 1, 1) := by decide +kernel
theorem dX0_over_7 : decode cX0_over 7 = .ok (.imul, 1) := by decide +kernel
theorem dX0_over_8 : decode cX0_over 8 = .ok (.iload_n 2, 1) := by decide +kernel
theorem dX0_over_9 : decode cX0_over 9 = .ok (.iadd, 1) := by decide +kernel
theorem dX0_over_10 : decode cX0_over 10 = .ok (.iaload, 1) := by decide +kernel
theorem dX0_over_11 : decode cX0_over 11 = .ok (.i2l, 1) := by decide +kernel
theorem dX0_over_12 : decode cX0_over 12 = .ok (.aload_n 0, 1) := by decide +kernel
theorem dX0_over_13 : decode cX0_over 13 = .ok (.getfield 19, 3) := by decide +kernel
theorem dX0_over_16 : decode cX0_over 16 = .ok (.iload_n 1, 1) := by decide +kernel
theorem dX0_over_17 : decode cX0_over 17 = .ok (.laload, 1) := by decide +kernel
theorem dX0_over_18 : decode cX0_over 18 = .ok (.lsub, 1) := by decide +kernel
theorem dX0_over_19 : decode cX0_over 19 = .ok (.aload_n 0, 1) := by decide +kernel
theorem dX0_over_20 : decode cX0_over 20 = .ok (.getfield 23, 3) := by decide +kernel
theorem dX0_over_23 : decode cX0_over 23 = .ok (.iload_n 2, 1) := by decide +kernel
theorem dX0_over_24 : decode cX0_over 24 = .ok (.laload, 1) := by decide +kernel
theorem dX0_over_25 : decode cX0_over 25 = .ok (.lsub, 1) := by decide +kernel
theorem dX0_over_26 : decode cX0_over 26 = .ok (.lreturn, 1) := by decide +kernel
abbrev cX0_order : ByteArray := prog_1_method_8_code
def yX0_order : MethodName := ⟨RX0, "order", "()V"⟩
theorem dX0_order_0 : decode cX0_order 0 = .ok (.iconst 0, 1) := by decide +kernel
theorem dX0_order_1 : decode cX0_order 1 = .ok (.istore_n 1, 1) := by decide +kernel
theorem dX0_order_2 : decode cX0_order 2 = .ok (.iload_n 1, 1) := by decide +kernel
theorem dX0_order_3 : decode cX0_order 3 = .ok (.aload_n 0, 1) := by decide +kernel
theorem dX0_order_4 : decode cX0_order 4 = .ok (.getfield 15, 3) := by decide +kernel
theorem dX0_order_7 : decode cX0_order 7 = .ok (.if_icmp .ge 21, 3) := by decide +kernel
theorem dX0_order_10 : decode cX0_order 10 = .ok (.aload_n 0, 1) := by decide +kernel
theorem dX0_order_11 : decode cX0_order 11 = .ok (.getfield 29, 3) := by decide +kernel
theorem dX0_order_14 : decode cX0_order 14 = .ok (.aload_n 0, 1) := by decide +kernel
theorem dX0_order_15 : decode cX0_order 15 = .ok (.getfield 26, 3) := by decide +kernel
theorem dX0_order_18 : decode cX0_order 18 = .ok (.iload_n 1, 1) := by decide +kernel
theorem dX0_order_19 : decode cX0_order 19 = .ok (.iaload, 1) := by decide +kernel
theorem dX0_order_20 : decode cX0_order 20 = .ok (.iload_n 1, 1) := by decide +kernel
theorem dX0_order_21 : decode cX0_order 21 = .ok (.iastore, 1) := by decide +kernel
theorem dX0_order_22 : decode cX0_order 22 = .ok (.iinc 1 1, 3) := by decide +kernel
theorem dX0_order_25 : decode cX0_order 25 = .ok (.goto (-23), 3) := by decide +kernel
theorem dX0_order_28 : decode cX0_order 28 = .ok (.iconst 0, 1) := by decide +kernel
theorem dX0_order_29 : decode cX0_order 29 = .ok (.istore_n 1, 1) := by decide +kernel
theorem dX0_order_30 : decode cX0_order 30 = .ok (.iload_n 1, 1) := by decide +kernel
theorem dX0_order_31 : decode cX0_order 31 = .ok (.aload_n 0, 1) := by decide +kernel
theorem dX0_order_32 : decode cX0_order 32 = .ok (.getfield 15, 3) := by decide +kernel
theorem dX0_order_35 : decode cX0_order 35 = .ok (.if_icmp .ge 138, 3) := by decide +kernel
theorem dX0_order_38 : decode cX0_order 38 = .ok (.aload_n 0, 1) := by decide +kernel
theorem dX0_order_39 : decode cX0_order 39 = .ok (.getfield 29, 3) := by decide +kernel
theorem dX0_order_42 : decode cX0_order 42 = .ok (.iload_n 1, 1) := by decide +kernel
theorem dX0_order_43 : decode cX0_order 43 = .ok (.iaload, 1) := by decide +kernel
theorem dX0_order_44 : decode cX0_order 44 = .ok (.istore_n 2, 1) := by decide +kernel
theorem dX0_order_45 : decode cX0_order 45 = .ok (.iconst 0, 1) := by decide +kernel
theorem dX0_order_46 : decode cX0_order 46 = .ok (.istore_n 3, 1) := by decide +kernel
theorem dX0_order_47 : decode cX0_order 47 = .ok (.iload_n 3, 1) := by decide +kernel
theorem dX0_order_48 : decode cX0_order 48 = .ok (.iload_n 2, 1) := by decide +kernel
theorem dX0_order_49 : decode cX0_order 49 = .ok (.if_icmp .ge 118, 3) := by decide +kernel
theorem dX0_order_52 : decode cX0_order 52 = .ok (.aload_n 0, 1) := by decide +kernel
theorem dX0_order_53 : decode cX0_order 53 = .ok (.getfield 26, 3) := by decide +kernel
theorem dX0_order_56 : decode cX0_order 56 = .ok (.iload_n 3, 1) := by decide +kernel
theorem dX0_order_57 : decode cX0_order 57 = .ok (.iaload, 1) := by decide +kernel
theorem dX0_order_58 : decode cX0_order 58 = .ok (.iload_n 1, 1) := by decide +kernel
theorem dX0_order_59 : decode cX0_order 59 = .ok (.if_icmp .lt 102, 3) := by decide +kernel
theorem dX0_order_62 : decode cX0_order 62 = .ok (.aload_n 0, 1) := by decide +kernel
theorem dX0_order_63 : decode cX0_order 63 = .ok (.iload_n 1, 1) := by decide +kernel
theorem dX0_order_64 : decode cX0_order 64 = .ok (.iload_n 3, 1) := by decide +kernel
theorem dX0_order_65 : decode cX0_order 65 = .ok (.invokevirtual 65, 3) := by decide +kernel
theorem dX0_order_68 : decode cX0_order 68 = .ok (.lconst 0, 1) := by decide +kernel
theorem dX0_order_69 : decode cX0_order 69 = .ok (.lcmp, 1) := by decide +kernel
theorem dX0_order_70 : decode cX0_order 70 = .ok (.ifCond .eq 6, 3) := by decide +kernel
theorem dX0_order_73 : decode cX0_order 73 = .ok (.goto 88, 3) := by decide +kernel
theorem dX0_order_76 : decode cX0_order 76 = .ok (.iconst 0, 1) := by decide +kernel
theorem dX0_order_77 : decode cX0_order 77 = .ok (.istore 4, 2) := by decide +kernel
theorem dX0_order_79 : decode cX0_order 79 = .ok (.iload 4, 2) := by decide +kernel
theorem dX0_order_81 : decode cX0_order 81 = .ok (.aload_n 0, 1) := by decide +kernel
theorem dX0_order_82 : decode cX0_order 82 = .ok (.getfield 15, 3) := by decide +kernel
theorem dX0_order_85 : decode cX0_order 85 = .ok (.if_icmp .ge 38, 3) := by decide +kernel
theorem dX0_order_88 : decode cX0_order 88 = .ok (.aload_n 0, 1) := by decide +kernel
theorem dX0_order_89 : decode cX0_order 89 = .ok (.getfield 38, 3) := by decide +kernel
theorem dX0_order_92 : decode cX0_order 92 = .ok (.iload 4, 2) := by decide +kernel
theorem dX0_order_94 : decode cX0_order 94 = .ok (.aload_n 0, 1) := by decide +kernel
theorem dX0_order_95 : decode cX0_order 95 = .ok (.getfield 26, 3) := by decide +kernel
theorem dX0_order_98 : decode cX0_order 98 = .ok (.iload 4, 2) := by decide +kernel
theorem dX0_order_100 : decode cX0_order 100 = .ok (.iaload, 1) := by decide +kernel
theorem dX0_order_101 : decode cX0_order 101 = .ok (.iload_n 1, 1) := by decide +kernel
theorem dX0_order_102 : decode cX0_order 102 = .ok (.if_icmp .lt 9, 3) := by decide +kernel
theorem dX0_order_105 : decode cX0_order 105 = .ok (.iload 4, 2) := by decide +kernel
theorem dX0_order_107 : decode cX0_order 107 = .ok (.iload_n 3, 1) := by decide +kernel
theorem dX0_order_108 : decode cX0_order 108 = .ok (.if_icmp .ne 7, 3) := by decide +kernel
theorem dX0_order_111 : decode cX0_order 111 = .ok (.iconst 1, 1) := by decide +kernel
theorem dX0_order_112 : decode cX0_order 112 = .ok (.goto 4, 3) := by decide +kernel
theorem dX0_order_115 : decode cX0_order 115 = .ok (.iconst 0, 1) := by decide +kernel
theorem dX0_order_116 : decode cX0_order 116 = .ok (.bastore, 1) := by decide +kernel
theorem dX0_order_117 : decode cX0_order 117 = .ok (.iinc 4 1, 3) := by decide +kernel
theorem dX0_order_120 : decode cX0_order 120 = .ok (.goto (-41), 3) := by decide +kernel
theorem dX0_order_123 : decode cX0_order 123 = .ok (.aload_n 0, 1) := by decide +kernel
theorem dX0_order_124 : decode cX0_order 124 = .ok (.getfield 26, 3) := by decide +kernel
theorem dX0_order_127 : decode cX0_order 127 = .ok (.iload_n 3, 1) := by decide +kernel
theorem dX0_order_128 : decode cX0_order 128 = .ok (.iaload, 1) := by decide +kernel
theorem dX0_order_129 : decode cX0_order 129 = .ok (.istore 4, 2) := by decide +kernel
theorem dX0_order_131 : decode cX0_order 131 = .ok (.aload_n 0, 1) := by decide +kernel
theorem dX0_order_132 : decode cX0_order 132 = .ok (.iload 4, 2) := by decide +kernel
theorem dX0_order_134 : decode cX0_order 134 = .ok (.iload_n 2, 1) := by decide +kernel
theorem dX0_order_135 : decode cX0_order 135 = .ok (.invokevirtual 69, 3) := by decide +kernel
theorem dX0_order_138 : decode cX0_order 138 = .ok (.ifCond .ne 6, 3) := by decide +kernel
theorem dX0_order_141 : decode cX0_order 141 = .ok (.goto 20, 3) := by decide +kernel
theorem dX0_order_144 : decode cX0_order 144 = .ok (.aload_n 0, 1) := by decide +kernel
theorem dX0_order_145 : decode cX0_order 145 = .ok (.getfield 26, 3) := by decide +kernel
theorem dX0_order_148 : decode cX0_order 148 = .ok (.iload_n 3, 1) := by decide +kernel
theorem dX0_order_149 : decode cX0_order 149 = .ok (.iload_n 1, 1) := by decide +kernel
theorem dX0_order_150 : decode cX0_order 150 = .ok (.iastore, 1) := by decide +kernel
theorem dX0_order_151 : decode cX0_order 151 = .ok (.aload_n 0, 1) := by decide +kernel
theorem dX0_order_152 : decode cX0_order 152 = .ok (.getfield 29, 3) := by decide +kernel
theorem dX0_order_155 : decode cX0_order 155 = .ok (.iload_n 1, 1) := by decide +kernel
theorem dX0_order_156 : decode cX0_order 156 = .ok (.iload_n 3, 1) := by decide +kernel
theorem dX0_order_157 : decode cX0_order 157 = .ok (.iastore, 1) := by decide +kernel
theorem dX0_order_158 : decode cX0_order 158 = .ok (.goto 9, 3) := by decide +kernel
theorem dX0_order_161 : decode cX0_order 161 = .ok (.iinc 3 1, 3) := by decide +kernel
theorem dX0_order_164 : decode cX0_order 164 = .ok (.goto (-117), 3) := by decide +kernel
theorem dX0_order_167 : decode cX0_order 167 = .ok (.iinc 1 1, 3) := by decide +kernel
theorem dX0_order_170 : decode cX0_order 170 = .ok (.goto (-140), 3) := by decide +kernel
theorem dX0_order_173 : decode cX0_order 173 = .ok (.return_, 1) := by decide +kernel
abbrev cX0_find : ByteArray := prog_1_method_7_code
def yX0_find : MethodName := ⟨RX0, "find", "(II)Z"⟩
theorem dX0_find_0 : decode cX0_find 0 = .ok (.iconst 0, 1) := by decide +kernel
theorem dX0_find_1 : decode cX0_find 1 = .ok (.istore_n 3, 1) := by decide +kernel
theorem dX0_find_2 : decode cX0_find 2 = .ok (.iload_n 3, 1) := by decide +kernel
theorem dX0_find_3 : decode cX0_find 3 = .ok (.aload_n 0, 1) := by decide +kernel
theorem dX0_find_4 : decode cX0_find 4 = .ok (.getfield 15, 3) := by decide +kernel
theorem dX0_find_7 : decode cX0_find 7 = .ok (.if_icmp .ge 77, 3) := by decide +kernel
theorem dX0_find_10 : decode cX0_find 10 = .ok (.aload_n 0, 1) := by decide +kernel
theorem dX0_find_11 : decode cX0_find 11 = .ok (.getfield 38, 3) := by decide +kernel
theorem dX0_find_14 : decode cX0_find 14 = .ok (.iload_n 3, 1) := by decide +kernel
theorem dX0_find_15 : decode cX0_find 15 = .ok (.baload, 1) := by decide +kernel
theorem dX0_find_16 : decode cX0_find 16 = .ok (.ifCond .ne 62, 3) := by decide +kernel
theorem dX0_find_19 : decode cX0_find 19 = .ok (.aload_n 0, 1) := by decide +kernel
theorem dX0_find_20 : decode cX0_find 20 = .ok (.iload_n 1, 1) := by decide +kernel
theorem dX0_find_21 : decode cX0_find 21 = .ok (.iload_n 3, 1) := by decide +kernel
theorem dX0_find_22 : decode cX0_find 22 = .ok (.invokevirtual 65, 3) := by decide +kernel
theorem dX0_find_25 : decode cX0_find 25 = .ok (.lconst 0, 1) := by decide +kernel
theorem dX0_find_26 : decode cX0_find 26 = .ok (.lcmp, 1) := by decide +kernel
theorem dX0_find_27 : decode cX0_find 27 = .ok (.ifCond .eq 6, 3) := by decide +kernel
theorem dX0_find_30 : decode cX0_find 30 = .ok (.goto 48, 3) := by decide +kernel
theorem dX0_find_33 : decode cX0_find 33 = .ok (.aload_n 0, 1) := by decide +kernel
theorem dX0_find_34 : decode cX0_find 34 = .ok (.getfield 38, 3) := by decide +kernel
theorem dX0_find_37 : decode cX0_find 37 = .ok (.iload_n 3, 1) := by decide +kernel
theorem dX0_find_38 : decode cX0_find 38 = .ok (.iconst 1, 1) := by decide +kernel
theorem dX0_find_39 : decode cX0_find 39 = .ok (.bastore, 1) := by decide +kernel
theorem dX0_find_40 : decode cX0_find 40 = .ok (.iload_n 3, 1) := by decide +kernel
theorem dX0_find_41 : decode cX0_find 41 = .ok (.iload_n 2, 1) := by decide +kernel
theorem dX0_find_42 : decode cX0_find 42 = .ok (.if_icmp .eq 20, 3) := by decide +kernel
theorem dX0_find_45 : decode cX0_find 45 = .ok (.aload_n 0, 1) := by decide +kernel
theorem dX0_find_46 : decode cX0_find 46 = .ok (.aload_n 0, 1) := by decide +kernel
theorem dX0_find_47 : decode cX0_find 47 = .ok (.getfield 26, 3) := by decide +kernel
theorem dX0_find_50 : decode cX0_find 50 = .ok (.iload_n 3, 1) := by decide +kernel
theorem dX0_find_51 : decode cX0_find 51 = .ok (.iaload, 1) := by decide +kernel
theorem dX0_find_52 : decode cX0_find 52 = .ok (.iload_n 2, 1) := by decide +kernel
theorem dX0_find_53 : decode cX0_find 53 = .ok (.invokevirtual 69, 3) := by decide +kernel
theorem dX0_find_56 : decode cX0_find 56 = .ok (.ifCond .ne 6, 3) := by decide +kernel
theorem dX0_find_59 : decode cX0_find 59 = .ok (.goto 19, 3) := by decide +kernel
theorem dX0_find_62 : decode cX0_find 62 = .ok (.aload_n 0, 1) := by decide +kernel
theorem dX0_find_63 : decode cX0_find 63 = .ok (.getfield 26, 3) := by decide +kernel
theorem dX0_find_66 : decode cX0_find 66 = .ok (.iload_n 3, 1) := by decide +kernel
theorem dX0_find_67 : decode cX0_find 67 = .ok (.iload_n 1, 1) := by decide +kernel
theorem dX0_find_68 : decode cX0_find 68 = .ok (.iastore, 1) := by decide +kernel
theorem dX0_find_69 : decode cX0_find 69 = .ok (.aload_n 0, 1) := by decide +kernel
theorem dX0_find_70 : decode cX0_find 70 = .ok (.getfield 29, 3) := by decide +kernel
theorem dX0_find_73 : decode cX0_find 73 = .ok (.iload_n 1, 1) := by decide +kernel
theorem dX0_find_74 : decode cX0_find 74 = .ok (.iload_n 3, 1) := by decide +kernel
theorem dX0_find_75 : decode cX0_find 75 = .ok (.iastore, 1) := by decide +kernel
theorem dX0_find_76 : decode cX0_find 76 = .ok (.iconst 1, 1) := by decide +kernel
theorem dX0_find_77 : decode cX0_find 77 = .ok (.ireturn, 1) := by decide +kernel
theorem dX0_find_78 : decode cX0_find 78 = .ok (.iinc 3 1, 3) := by decide +kernel
theorem dX0_find_81 : decode cX0_find 81 = .ok (.goto (-79), 3) := by decide +kernel
theorem dX0_find_84 : decode cX0_find 84 = .ok (.iconst 0, 1) := by decide +kernel
theorem dX0_find_85 : decode cX0_find 85 = .ok (.ireturn, 1) := by decide +kernel
abbrev cX0_given : ByteArray := prog_1_method_10_code
def yX0_given : MethodName := ⟨RX0, "given", "(I)I"⟩
theorem dX0_given_0 : decode cX0_given 0 = .ok (.aload_n 0, 1) := by decide +kernel
theorem dX0_given_1 : decode cX0_given 1 = .ok (.getfield 48, 3) := by decide +kernel
theorem dX0_given_4 : decode cX0_given 4 = .ok (.ifCond .eq 20, 3) := by decide +kernel
theorem dX0_given_7 : decode cX0_given 7 = .ok (.aload_n 0, 1) := by decide +kernel
theorem dX0_given_8 : decode cX0_given 8 = .ok (.getfield 29, 3) := by decide +kernel
theorem dX0_given_11 : decode cX0_given 11 = .ok (.iload_n 1, 1) := by decide +kernel
theorem dX0_given_12 : decode cX0_given 12 = .ok (.ldc 82, 2) := by decide +kernel
theorem dX0_given_14 : decode cX0_given 14 = .ok (.iand, 1) := by decide +kernel
theorem dX0_given_15 : decode cX0_given 15 = .ok (.aload_n 0, 1) := by decide +kernel
theorem dX0_given_16 : decode cX0_given 16 = .ok (.getfield 15, 3) := by decide +kernel
theorem dX0_given_19 : decode cX0_given 19 = .ok (.irem, 1) := by decide +kernel
theorem dX0_given_20 : decode cX0_given 20 = .ok (.iaload, 1) := by decide +kernel
theorem dX0_given_21 : decode cX0_given 21 = .ok (.goto 4, 3) := by decide +kernel
theorem dX0_given_24 : decode cX0_given 24 = .ok (.iconst (-1), 1) := by decide +kernel
theorem dX0_given_25 : decode cX0_given 25 = .ok (.ireturn, 1) := by decide +kernel
theorem q7 : (Jvm.Cond.initialized "PairDesk") ∈ lw_all := lw_g (lw_at lw_m0 1 rfl) rfl
theorem q11 : (Jvm.Cond.instantiable "PairDesk" (10 : Nat)) ∈ lw_all := lw_g (lw_at lw_m0 5 rfl) rfl
theorem q13 : (Jvm.Cond.instanceMethod ({ cls := "PairDesk", name := "<init>", desc := "()V" } : Jvm.MethodName)) ∈ lw_all := lw_g (lw_at lw_m0 7 rfl) rfl
theorem q14 : (Jvm.Cond.code ({ cls := "PairDesk", name := "<init>", desc := "()V" } : Jvm.MethodName) prog_1_method_1_code (1 : Nat) (Option.none : Option Jvm.ClassFile.FieldType)) ∈ lw_all := lw_g (lw_at lw_m0 8 rfl) rfl
theorem q15 : (Jvm.Cond.methodLink "PairDesk" (3 : Nat) ({ cls := "java/lang/Object", name := "<init>", desc := "()V" } : Jvm.MethodName)) ∈ lw_all := lw_g (lw_at lw_m0 9 rfl) rfl
theorem q18 : (Jvm.Cond.fieldLink "PairDesk" (11 : Nat) "PairDesk" "cost" "[I") ∈ lw_all := lw_g (lw_at lw_m0 12 rfl) rfl
theorem q19 : (Jvm.Cond.fieldLink "PairDesk" (15 : Nat) "PairDesk" "n" "I") ∈ lw_all := lw_g (lw_at lw_m0 13 rfl) rfl
theorem q20 : (Jvm.Cond.fieldLink "PairDesk" (48 : Nat) "PairDesk" "reckoned" "Z") ∈ lw_all := lw_g (lw_at lw_m0 14 rfl) rfl
theorem q21 : (Jvm.Cond.fieldLink "PairDesk" (19 : Nat) "PairDesk" "ofRow" "[J") ∈ lw_all := lw_g (lw_at lw_m0 15 rfl) rfl
theorem q22 : (Jvm.Cond.fieldLink "PairDesk" (23 : Nat) "PairDesk" "ofColumn" "[J") ∈ lw_all := lw_g (lw_at lw_m0 16 rfl) rfl
theorem q23 : (Jvm.Cond.fieldLink "PairDesk" (26 : Nat) "PairDesk" "rowOf" "[I") ∈ lw_all := lw_g (lw_at lw_m0 17 rfl) rfl
theorem q24 : (Jvm.Cond.fieldLink "PairDesk" (29 : Nat) "PairDesk" "columnOf" "[I") ∈ lw_all := lw_g (lw_at lw_m0 18 rfl) rfl
theorem q25 : (Jvm.Cond.fieldLink "PairDesk" (32 : Nat) "PairDesk" "way" "[J") ∈ lw_all := lw_g (lw_at lw_m0 19 rfl) rfl
theorem q26 : (Jvm.Cond.fieldLink "PairDesk" (35 : Nat) "PairDesk" "before" "[I") ∈ lw_all := lw_g (lw_at lw_m0 20 rfl) rfl
theorem q27 : (Jvm.Cond.fieldLink "PairDesk" (38 : Nat) "PairDesk" "done" "[Z") ∈ lw_all := lw_g (lw_at lw_m0 21 rfl) rfl
theorem q28 : (Jvm.Cond.laysFinal "PairDesk" "PairDesk" "cost" "[I") ∈ lw_all := lw_g (lw_at lw_m0 22 rfl) rfl
theorem q29 : (Jvm.Cond.soleField "PairDesk" "cost") ∈ lw_all := lw_g (lw_at lw_m0 23 rfl) rfl
theorem q30 : (Jvm.Cond.lays "PairDesk" "PairDesk" "n" "I") ∈ lw_all := lw_g (lw_at lw_m0 24 rfl) rfl
theorem q31 : (Jvm.Cond.soleField "PairDesk" "n") ∈ lw_all := lw_g (lw_at lw_m0 25 rfl) rfl
theorem q32 : (Jvm.Cond.lays "PairDesk" "PairDesk" "reckoned" "Z") ∈ lw_all := lw_g (lw_at lw_m0 26 rfl) rfl
theorem q33 : (Jvm.Cond.soleField "PairDesk" "reckoned") ∈ lw_all := lw_g (lw_at lw_m0 27 rfl) rfl
theorem q34 : (Jvm.Cond.laysFinal "PairDesk" "PairDesk" "ofRow" "[J") ∈ lw_all := lw_g (lw_at lw_m0 28 rfl) rfl
theorem q35 : (Jvm.Cond.soleField "PairDesk" "ofRow") ∈ lw_all := lw_g (lw_at lw_m0 29 rfl) rfl
theorem q36 : (Jvm.Cond.laysFinal "PairDesk" "PairDesk" "ofColumn" "[J") ∈ lw_all := lw_g (lw_at lw_m0 30 rfl) rfl
theorem q37 : (Jvm.Cond.soleField "PairDesk" "ofColumn") ∈ lw_all := lw_g (lw_at lw_m0 31 rfl) rfl
theorem q38 : (Jvm.Cond.laysFinal "PairDesk" "PairDesk" "rowOf" "[I") ∈ lw_all := lw_g (lw_at lw_m0 32 rfl) rfl
theorem q39 : (Jvm.Cond.soleField "PairDesk" "rowOf") ∈ lw_all := lw_g (lw_at lw_m0 33 rfl) rfl
theorem q40 : (Jvm.Cond.laysFinal "PairDesk" "PairDesk" "columnOf" "[I") ∈ lw_all := lw_g (lw_at lw_m0 34 rfl) rfl
theorem q41 : (Jvm.Cond.soleField "PairDesk" "columnOf") ∈ lw_all := lw_g (lw_at lw_m0 35 rfl) rfl
theorem q42 : (Jvm.Cond.laysFinal "PairDesk" "PairDesk" "way" "[J") ∈ lw_all := lw_g (lw_at lw_m0 36 rfl) rfl
theorem q43 : (Jvm.Cond.soleField "PairDesk" "way") ∈ lw_all := lw_g (lw_at lw_m0 37 rfl) rfl
theorem q44 : (Jvm.Cond.laysFinal "PairDesk" "PairDesk" "before" "[I") ∈ lw_all := lw_g (lw_at lw_m0 38 rfl) rfl
theorem q45 : (Jvm.Cond.soleField "PairDesk" "before") ∈ lw_all := lw_g (lw_at lw_m0 39 rfl) rfl
theorem q46 : (Jvm.Cond.laysFinal "PairDesk" "PairDesk" "done" "[Z") ∈ lw_all := lw_g (lw_at lw_m0 40 rfl) rfl
theorem q47 : (Jvm.Cond.soleField "PairDesk" "done") ∈ lw_all := lw_g (lw_at lw_m0 41 rfl) rfl
theorem q48 : (Jvm.Cond.superclass "PairDesk" "java/lang/Object") ∈ lw_all := lw_g (lw_at lw_m0 42 rfl) rfl
theorem q53 : (Jvm.Cond.instanceMethod ({ cls := "PairDesk", name := "size", desc := "(I)V" } : Jvm.MethodName)) ∈ lw_all := lw_g (lw_at lw_m0 47 rfl) rfl
theorem q54 : (Jvm.Cond.selects "PairDesk" ({ cls := "PairDesk", name := "size", desc := "(I)V" } : Jvm.MethodName) ({ cls := "PairDesk", name := "size", desc := "(I)V" } : Jvm.MethodName)) ∈ lw_all := lw_g (lw_at lw_m0 48 rfl) rfl
theorem q55 : (Jvm.Cond.code ({ cls := "PairDesk", name := "size", desc := "(I)V" } : Jvm.MethodName) prog_1_method_2_code (2 : Nat) (Option.none : Option Jvm.ClassFile.FieldType)) ∈ lw_all := lw_g (lw_at lw_m0 49 rfl) rfl
theorem q56 : (Jvm.Cond.methodLink "PairDesk" (42 : Nat) ({ cls := "java/util/Arrays", name := "fill", desc := "([II)V" } : Jvm.MethodName)) ∈ lw_all := lw_g (lw_at lw_m0 50 rfl) rfl
theorem q60 : (Jvm.Cond.instanceMethod ({ cls := "PairDesk", name := "cost", desc := "(IIIII)V" } : Jvm.MethodName)) ∈ lw_all := lw_g (lw_at lw_m0 54 rfl) rfl
theorem q61 : (Jvm.Cond.selects "PairDesk" ({ cls := "PairDesk", name := "cost", desc := "(IIIII)V" } : Jvm.MethodName) ({ cls := "PairDesk", name := "cost", desc := "(IIIII)V" } : Jvm.MethodName)) ∈ lw_all := lw_g (lw_at lw_m0 55 rfl) rfl
theorem q62 : (Jvm.Cond.code ({ cls := "PairDesk", name := "cost", desc := "(IIIII)V" } : Jvm.MethodName) prog_1_method_3_code (8 : Nat) (Option.none : Option Jvm.ClassFile.FieldType)) ∈ lw_all := lw_g (lw_at lw_m0 56 rfl) rfl
theorem q63 : (Jvm.Cond.constant "PairDesk" (52 : Nat) (1073741823 : Int32)) ∈ lw_all := lw_g (lw_at lw_m0 57 rfl) rfl
theorem q64 : (Jvm.Cond.methodLink "PairDesk" (53 : Nat) ({ cls := "PairDesk", name := "set", desc := "(III)V" } : Jvm.MethodName)) ∈ lw_all := lw_g (lw_at lw_m0 58 rfl) rfl
theorem q65 : (Jvm.Cond.privateMethod ({ cls := "PairDesk", name := "set", desc := "(III)V" } : Jvm.MethodName)) ∈ lw_tbl := lw_at lw_m0 59 rfl
theorem q66 : (Jvm.Cond.instanceMethod ({ cls := "PairDesk", name := "set", desc := "(III)V" } : Jvm.MethodName)) ∈ lw_all := lw_g (lw_at lw_m0 60 rfl) rfl
theorem q67 : (Jvm.Cond.code ({ cls := "PairDesk", name := "set", desc := "(III)V" } : Jvm.MethodName) prog_1_method_4_code (4 : Nat) (Option.none : Option Jvm.ClassFile.FieldType)) ∈ lw_all := lw_g (lw_at lw_m0 61 rfl) rfl
theorem q69 : (Jvm.Cond.instanceMethod ({ cls := "PairDesk", name := "least", desc := "()J" } : Jvm.MethodName)) ∈ lw_all := lw_g (lw_at lw_m0 63 rfl) rfl
theorem q70 : (Jvm.Cond.selects "PairDesk" ({ cls := "PairDesk", name := "least", desc := "()J" } : Jvm.MethodName) ({ cls := "PairDesk", name := "least", desc := "()J" } : Jvm.MethodName)) ∈ lw_all := lw_g (lw_at lw_m0 64 rfl) rfl
theorem q71 : (Jvm.Cond.code ({ cls := "PairDesk", name := "least", desc := "()J" } : Jvm.MethodName) prog_1_method_9_code (4 : Nat) (Option.some Jvm.ClassFile.FieldType.long)) ∈ lw_all := lw_g (lw_at lw_m0 65 rfl) rfl
theorem q72 : (Jvm.Cond.methodLink "PairDesk" (59 : Nat) ({ cls := "java/util/Arrays", name := "fill", desc := "([JJ)V" } : Jvm.MethodName)) ∈ lw_all := lw_g (lw_at lw_m0 66 rfl) rfl
theorem q75 : (Jvm.Cond.methodLink "PairDesk" (73 : Nat) ({ cls := "PairDesk", name := "place", desc := "(I)V" } : Jvm.MethodName)) ∈ lw_all := lw_g (lw_at lw_m0 69 rfl) rfl
theorem q76 : (Jvm.Cond.privateMethod ({ cls := "PairDesk", name := "place", desc := "(I)V" } : Jvm.MethodName)) ∈ lw_tbl := lw_at lw_m0 70 rfl
theorem q77 : (Jvm.Cond.instanceMethod ({ cls := "PairDesk", name := "place", desc := "(I)V" } : Jvm.MethodName)) ∈ lw_all := lw_g (lw_at lw_m0 71 rfl) rfl
theorem q78 : (Jvm.Cond.code ({ cls := "PairDesk", name := "place", desc := "(I)V" } : Jvm.MethodName) prog_1_method_6_code (8 : Nat) (Option.none : Option Jvm.ClassFile.FieldType)) ∈ lw_all := lw_g (lw_at lw_m0 72 rfl) rfl
theorem q79 : (Jvm.Cond.constantLong "PairDesk" (57 : Nat) (9223372036854775807 : Int64)) ∈ lw_all := lw_g (lw_at lw_m0 73 rfl) rfl
theorem q80 : (Jvm.Cond.methodLink "PairDesk" (62 : Nat) ({ cls := "java/util/Arrays", name := "fill", desc := "([ZZ)V" } : Jvm.MethodName)) ∈ lw_all := lw_g (lw_at lw_m0 74 rfl) rfl
theorem q83 : (Jvm.Cond.methodLink "PairDesk" (65 : Nat) ({ cls := "PairDesk", name := "over", desc := "(II)J" } : Jvm.MethodName)) ∈ lw_all := lw_g (lw_at lw_m0 77 rfl) rfl
theorem q84 : (Jvm.Cond.privateMethod ({ cls := "PairDesk", name := "over", desc := "(II)J" } : Jvm.MethodName)) ∈ lw_tbl := lw_at lw_m0 78 rfl
theorem q85 : (Jvm.Cond.instanceMethod ({ cls := "PairDesk", name := "over", desc := "(II)J" } : Jvm.MethodName)) ∈ lw_all := lw_g (lw_at lw_m0 79 rfl) rfl
theorem q86 : (Jvm.Cond.code ({ cls := "PairDesk", name := "over", desc := "(II)J" } : Jvm.MethodName) prog_1_method_5_code (3 : Nat) (Option.some Jvm.ClassFile.FieldType.long)) ∈ lw_all := lw_g (lw_at lw_m0 80 rfl) rfl
theorem q87 : (Jvm.Cond.methodLink "PairDesk" (77 : Nat) ({ cls := "PairDesk", name := "order", desc := "()V" } : Jvm.MethodName)) ∈ lw_all := lw_g (lw_at lw_m0 81 rfl) rfl
theorem q88 : (Jvm.Cond.privateMethod ({ cls := "PairDesk", name := "order", desc := "()V" } : Jvm.MethodName)) ∈ lw_tbl := lw_at lw_m0 82 rfl
theorem q89 : (Jvm.Cond.instanceMethod ({ cls := "PairDesk", name := "order", desc := "()V" } : Jvm.MethodName)) ∈ lw_all := lw_g (lw_at lw_m0 83 rfl) rfl
theorem q90 : (Jvm.Cond.code ({ cls := "PairDesk", name := "order", desc := "()V" } : Jvm.MethodName) prog_1_method_8_code (5 : Nat) (Option.none : Option Jvm.ClassFile.FieldType)) ∈ lw_all := lw_g (lw_at lw_m0 84 rfl) rfl
theorem q91 : (Jvm.Cond.methodLink "PairDesk" (69 : Nat) ({ cls := "PairDesk", name := "find", desc := "(II)Z" } : Jvm.MethodName)) ∈ lw_all := lw_g (lw_at lw_m0 85 rfl) rfl
theorem q92 : (Jvm.Cond.privateMethod ({ cls := "PairDesk", name := "find", desc := "(II)Z" } : Jvm.MethodName)) ∈ lw_tbl := lw_at lw_m0 86 rfl
theorem q93 : (Jvm.Cond.instanceMethod ({ cls := "PairDesk", name := "find", desc := "(II)Z" } : Jvm.MethodName)) ∈ lw_all := lw_g (lw_at lw_m0 87 rfl) rfl
theorem q94 : (Jvm.Cond.code ({ cls := "PairDesk", name := "find", desc := "(II)Z" } : Jvm.MethodName) prog_1_method_7_code (4 : Nat) (Option.some Jvm.ClassFile.FieldType.boolean)) ∈ lw_all := lw_g (lw_at lw_m0 88 rfl) rfl
theorem q96 : (Jvm.Cond.instanceMethod ({ cls := "PairDesk", name := "given", desc := "(I)I" } : Jvm.MethodName)) ∈ lw_all := lw_g (lw_at lw_m0 90 rfl) rfl
theorem q97 : (Jvm.Cond.selects "PairDesk" ({ cls := "PairDesk", name := "given", desc := "(I)I" } : Jvm.MethodName) ({ cls := "PairDesk", name := "given", desc := "(I)I" } : Jvm.MethodName)) ∈ lw_all := lw_g (lw_at lw_m0 91 rfl) rfl
theorem q98 : (Jvm.Cond.code ({ cls := "PairDesk", name := "given", desc := "(I)I" } : Jvm.MethodName) prog_1_method_10_code (2 : Nat) (Option.some Jvm.ClassFile.FieldType.int)) ∈ lw_all := lw_g (lw_at lw_m0 92 rfl) rfl
theorem q99 : (Jvm.Cond.constant "PairDesk" (82 : Nat) (2147483647 : Int32)) ∈ lw_all := lw_g (lw_at lw_m0 93 rfl) rfl
theorem in_X0 : ∀ w ∈ wsX00, w ∈ lw_all := lw_in wsX00 [28, 30, 32, 34, 36, 38, 40, 42, 44, 46] (by decide +kernel) (by decide +kernel)
end
section
/-! PairDeskModel -/
set_option maxRecDepth 100000
def RX1 : String := "PairDeskModel"
def TX1 : u_T := fun k => match k with
  | 0 => ("PairDeskModel", "cost", "[I", true)
  | 1 => ("PairDeskModel", "n", "I", false)
  | 2 => ("PairDeskModel", "best", "[J", true)
  | 3 => ("PairDeskModel", "given", "[I", true)
  | _ => ("PairDeskModel", "made", "Z", false)
def tyX1 : Nat → FieldType := fun k => match k with
  | 0 => .array .int
  | 1 => .int
  | 2 => .array .long
  | 3 => .array .int
  | _ => .boolean
abbrev wsX10 : List Cond := u_ws RX1 TX1 5
theorem nmX1 : ∀ a, a < 5 → ∀ b, b < 5 → a ≠ b → (TX1 a).2.1 ≠ (TX1 b).2.1 := by decide +kernel
theorem tyX1_ok : ∀ k, k < 5 → parseFieldDescriptor (TX1 k).2.2.1 = some (tyX1 k) := by decide +kernel
abbrev cX1_init : ByteArray := prog_3_method_1_code
def yX1_init : MethodName := ⟨RX1, "<init>", "()V"⟩
theorem dX1_init_0 : decode cX1_init 0 = .ok (.aload_n 0, 1) := by decide +kernel
theorem dX1_init_1 : decode cX1_init 1 = .ok (.invokespecial 1, 3) := by decide +kernel
theorem dX1_init_4 : decode cX1_init 4 = .ok (.aload_n 0, 1) := by decide +kernel
theorem dX1_init_5 : decode cX1_init 5 = .ok (.bipush 64, 2) := by decide +kernel
theorem dX1_init_7 : decode cX1_init 7 = .ok (.newarray .int, 2) := by decide +kernel
theorem dX1_init_9 : decode cX1_init 9 = .ok (.putfield 7, 3) := by decide +kernel
theorem dX1_init_12 : decode cX1_init 12 = .ok (.aload_n 0, 1) := by decide +kernel
theorem dX1_init_13 : decode cX1_init 13 = .ok (.iconst 1, 1) := by decide +kernel
theorem dX1_init_14 : decode cX1_init 14 = .ok (.putfield 13, 3) := by decide +kernel
theorem dX1_init_17 : decode cX1_init 17 = .ok (.aload_n 0, 1) := by decide +kernel
theorem dX1_init_18 : decode cX1_init 18 = .ok (.sipush 256, 3) := by decide +kernel
theorem dX1_init_21 : decode cX1_init 21 = .ok (.newarray .long, 2) := by decide +kernel
theorem dX1_init_23 : decode cX1_init 23 = .ok (.putfield 17, 3) := by decide +kernel
theorem dX1_init_26 : decode cX1_init 26 = .ok (.aload_n 0, 1) := by decide +kernel
theorem dX1_init_27 : decode cX1_init 27 = .ok (.bipush 8, 2) := by decide +kernel
theorem dX1_init_29 : decode cX1_init 29 = .ok (.newarray .int, 2) := by decide +kernel
theorem dX1_init_31 : decode cX1_init 31 = .ok (.putfield 21, 3) := by decide +kernel
theorem dX1_init_34 : decode cX1_init 34 = .ok (.return_, 1) := by decide +kernel
abbrev cX1_size : ByteArray := prog_3_method_2_code
def yX1_size : MethodName := ⟨RX1, "size", "(I)V"⟩
theorem dX1_size_0 : decode cX1_size 0 = .ok (.aload_n 0, 1) := by decide +kernel
theorem dX1_size_1 : decode cX1_size 1 = .ok (.iconst 1, 1) := by decide +kernel
theorem dX1_size_2 : decode cX1_size 2 = .ok (.iload_n 1, 1) := by decide +kernel
theorem dX1_size_3 : decode cX1_size 3 = .ok (.bipush 7, 2) := by decide +kernel
theorem dX1_size_5 : decode cX1_size 5 = .ok (.iand, 1) := by decide +kernel
theorem dX1_size_6 : decode cX1_size 6 = .ok (.iadd, 1) := by decide +kernel
theorem dX1_size_7 : decode cX1_size 7 = .ok (.putfield 13, 3) := by decide +kernel
theorem dX1_size_10 : decode cX1_size 10 = .ok (.iconst 0, 1) := by decide +kernel
theorem dX1_size_11 : decode cX1_size 11 = .ok (.istore_n 2, 1) := by decide +kernel
theorem dX1_size_12 : decode cX1_size 12 = .ok (.iload_n 2, 1) := by decide +kernel
theorem dX1_size_13 : decode cX1_size 13 = .ok (.bipush 64, 2) := by decide +kernel
theorem dX1_size_15 : decode cX1_size 15 = .ok (.if_icmp .ge 16, 3) := by decide +kernel
theorem dX1_size_18 : decode cX1_size 18 = .ok (.aload_n 0, 1) := by decide +kernel
theorem dX1_size_19 : decode cX1_size 19 = .ok (.getfield 7, 3) := by decide +kernel
theorem dX1_size_22 : decode cX1_size 22 = .ok (.iload_n 2, 1) := by decide +kernel
theorem dX1_size_23 : decode cX1_size 23 = .ok (.iconst 0, 1) := by decide +kernel
theorem dX1_size_24 : decode cX1_size 24 = .ok (.iastore, 1) := by decide +kernel
theorem dX1_size_25 : decode cX1_size 25 = .ok (.iinc 2 1, 3) := by decide +kernel
theorem dX1_size_28 : decode cX1_size 28 = .ok (.goto (-16), 3) := by decide +kernel
theorem dX1_size_31 : decode cX1_size 31 = .ok (.aload_n 0, 1) := by decide +kernel
theorem dX1_size_32 : decode cX1_size 32 = .ok (.iconst 0, 1) := by decide +kernel
theorem dX1_size_33 : decode cX1_size 33 = .ok (.putfield 24, 3) := by decide +kernel
theorem dX1_size_36 : decode cX1_size 36 = .ok (.return_, 1) := by decide +kernel
abbrev cX1_cost : ByteArray := prog_3_method_3_code
def yX1_cost : MethodName := ⟨RX1, "cost", "(IIIII)V"⟩
theorem dX1_cost_0 : decode cX1_cost 0 = .ok (.iload_n 1, 1) := by decide +kernel
theorem dX1_cost_1 : decode cX1_cost 1 = .ok (.iconst 1, 1) := by decide +kernel
theorem dX1_cost_2 : decode cX1_cost 2 = .ok (.ishr, 1) := by decide +kernel
theorem dX1_cost_3 : decode cX1_cost 3 = .ok (.ldc 28, 2) := by decide +kernel
theorem dX1_cost_5 : decode cX1_cost 5 = .ok (.iand, 1) := by decide +kernel
theorem dX1_cost_6 : decode cX1_cost 6 = .ok (.aload_n 0, 1) := by decide +kernel
theorem dX1_cost_7 : decode cX1_cost 7 = .ok (.getfield 13, 3) := by decide +kernel
theorem dX1_cost_10 : decode cX1_cost 10 = .ok (.irem, 1) := by decide +kernel
theorem dX1_cost_11 : decode cX1_cost 11 = .ok (.istore 6, 2) := by decide +kernel
theorem dX1_cost_13 : decode cX1_cost 13 = .ok (.iconst 0, 1) := by decide +kernel
theorem dX1_cost_14 : decode cX1_cost 14 = .ok (.istore 7, 2) := by decide +kernel
theorem dX1_cost_16 : decode cX1_cost 16 = .ok (.iload 7, 2) := by decide +kernel
theorem dX1_cost_18 : decode cX1_cost 18 = .ok (.iconst 4, 1) := by decide +kernel
theorem dX1_cost_19 : decode cX1_cost 19 = .ok (.if_icmp .ge 60, 3) := by decide +kernel
theorem dX1_cost_22 : decode cX1_cost 22 = .ok (.aload_n 0, 1) := by decide +kernel
theorem dX1_cost_23 : decode cX1_cost 23 = .ok (.getfield 7, 3) := by decide +kernel
theorem dX1_cost_26 : decode cX1_cost 26 = .ok (.bipush 8, 2) := by decide +kernel
theorem dX1_cost_28 : decode cX1_cost 28 = .ok (.iload 6, 2) := by decide +kernel
theorem dX1_cost_30 : decode cX1_cost 30 = .ok (.imul, 1) := by decide +kernel
theorem dX1_cost_31 : decode cX1_cost 31 = .ok (.iconst 4, 1) := by decide +kernel
theorem dX1_cost_32 : decode cX1_cost 32 = .ok (.iload_n 1, 1) := by decide +kernel
theorem dX1_cost_33 : decode cX1_cost 33 = .ok (.iconst 1, 1) := by decide +kernel
theorem dX1_cost_34 : decode cX1_cost 34 = .ok (.iand, 1) := by decide +kernel
theorem dX1_cost_35 : decode cX1_cost 35 = .ok (.imul, 1) := by decide +kernel
theorem dX1_cost_36 : decode cX1_cost 36 = .ok (.iadd, 1) := by decide +kernel
theorem dX1_cost_37 : decode cX1_cost 37 = .ok (.iload 7, 2) := by decide +kernel
theorem dX1_cost_39 : decode cX1_cost 39 = .ok (.iadd, 1) := by decide +kernel
theorem dX1_cost_40 : decode cX1_cost 40 = .ok (.iload 7, 2) := by decide +kernel
theorem dX1_cost_42 : decode cX1_cost 42 = .ok (.ifCond .ne 7, 3) := by decide +kernel
theorem dX1_cost_45 : decode cX1_cost 45 = .ok (.iload_n 2, 1) := by decide +kernel
theorem dX1_cost_46 : decode cX1_cost 46 = .ok (.goto 26, 3) := by decide +kernel
theorem dX1_cost_49 : decode cX1_cost 49 = .ok (.iload 7, 2) := by decide +kernel
theorem dX1_cost_51 : decode cX1_cost 51 = .ok (.iconst 1, 1) := by decide +kernel
theorem dX1_cost_52 : decode cX1_cost 52 = .ok (.if_icmp .ne 7, 3) := by decide +kernel
theorem dX1_cost_55 : decode cX1_cost 55 = .ok (.iload_n 3, 1) := by decide +kernel
theorem dX1_cost_56 : decode cX1_cost 56 = .ok (.goto 16, 3) := by decide +kernel
theorem dX1_cost_59 : decode cX1_cost 59 = .ok (.iload 7, 2) := by decide +kernel
theorem dX1_cost_61 : decode cX1_cost 61 = .ok (.iconst 2, 1) := by decide +kernel
theorem dX1_cost_62 : decode cX1_cost 62 = .ok (.if_icmp .ne 8, 3) := by decide +kernel
theorem dX1_cost_65 : decode cX1_cost 65 = .ok (.iload 4, 2) := by decide +kernel
theorem dX1_cost_67 : decode cX1_cost 67 = .ok (.goto 5, 3) := by decide +kernel
theorem dX1_cost_70 : decode cX1_cost 70 = .ok (.iload 5, 2) := by decide +kernel
theorem dX1_cost_72 : decode cX1_cost 72 = .ok (.iastore, 1) := by decide +kernel
theorem dX1_cost_73 : decode cX1_cost 73 = .ok (.iinc 7 1, 3) := by decide +kernel
theorem dX1_cost_76 : decode cX1_cost 76 = .ok (.goto (-60), 3) := by decide +kernel
theorem dX1_cost_79 : decode cX1_cost 79 = .ok (.aload_n 0, 1) := by decide +kernel
theorem dX1_cost_80 : decode cX1_cost 80 = .ok (.iconst 0, 1) := by decide +kernel
theorem dX1_cost_81 : decode cX1_cost 81 = .ok (.putfield 24, 3) := by decide +kernel
theorem dX1_cost_84 : decode cX1_cost 84 = .ok (.return_, 1) := by decide +kernel
abbrev cX1_least : ByteArray := prog_3_method_6_code
def yX1_least : MethodName := ⟨RX1, "least", "()J"⟩
theorem dX1_least_0 : decode cX1_least 0 = .ok (.aload_n 0, 1) := by decide +kernel
theorem dX1_least_1 : decode cX1_least 1 = .ok (.invokevirtual 33, 3) := by decide +kernel
theorem dX1_least_4 : decode cX1_least 4 = .ok (.aload_n 0, 1) := by decide +kernel
theorem dX1_least_5 : decode cX1_least 5 = .ok (.getfield 17, 3) := by decide +kernel
theorem dX1_least_8 : decode cX1_least 8 = .ok (.iconst 1, 1) := by decide +kernel
theorem dX1_least_9 : decode cX1_least 9 = .ok (.aload_n 0, 1) := by decide +kernel
theorem dX1_least_10 : decode cX1_least 10 = .ok (.getfield 13, 3) := by decide +kernel
theorem dX1_least_13 : decode cX1_least 13 = .ok (.ishl, 1) := by decide +kernel
theorem dX1_least_14 : decode cX1_least 14 = .ok (.iconst 1, 1) := by decide +kernel
theorem dX1_least_15 : decode cX1_least 15 = .ok (.isub, 1) := by decide +kernel
theorem dX1_least_16 : decode cX1_least 16 = .ok (.laload, 1) := by decide +kernel
theorem dX1_least_17 : decode cX1_least 17 = .ok (.lreturn, 1) := by decide +kernel
abbrev cX1_reckon : ByteArray := prog_3_method_5_code
def yX1_reckon : MethodName := ⟨RX1, "reckon", "()V"⟩
theorem dX1_reckon_0 : decode cX1_reckon 0 = .ok (.aload_n 0, 1) := by decide +kernel
theorem dX1_reckon_1 : decode cX1_reckon 1 = .ok (.getfield 17, 3) := by decide +kernel
theorem dX1_reckon_4 : decode cX1_reckon 4 = .ok (.iconst 0, 1) := by decide +kernel
theorem dX1_reckon_5 : decode cX1_reckon 5 = .ok (.lconst 0, 1) := by decide +kernel
theorem dX1_reckon_6 : decode cX1_reckon 6 = .ok (.lastore, 1) := by decide +kernel
theorem dX1_reckon_7 : decode cX1_reckon 7 = .ok (.iconst 1, 1) := by decide +kernel
theorem dX1_reckon_8 : decode cX1_reckon 8 = .ok (.istore_n 1, 1) := by decide +kernel
theorem dX1_reckon_9 : decode cX1_reckon 9 = .ok (.iload_n 1, 1) := by decide +kernel
theorem dX1_reckon_10 : decode cX1_reckon 10 = .ok (.iconst 1, 1) := by decide +kernel
theorem dX1_reckon_11 : decode cX1_reckon 11 = .ok (.aload_n 0, 1) := by decide +kernel
theorem dX1_reckon_12 : decode cX1_reckon 12 = .ok (.getfield 13, 3) := by decide +kernel
theorem dX1_reckon_15 : decode cX1_reckon 15 = .ok (.ishl, 1) := by decide +kernel
theorem dX1_reckon_16 : decode cX1_reckon 16 = .ok (.if_icmp .ge 103, 3) := by decide +kernel
theorem dX1_reckon_19 : decode cX1_reckon 19 = .ok (.aload_n 0, 1) := by decide +kernel
theorem dX1_reckon_20 : decode cX1_reckon 20 = .ok (.getfield 13, 3) := by decide +kernel
theorem dX1_reckon_23 : decode cX1_reckon 23 = .ok (.iload_n 1, 1) := by decide +kernel
theorem dX1_reckon_24 : decode cX1_reckon 24 = .ok (.invokestatic 29, 3) := by decide +kernel
theorem dX1_reckon_27 : decode cX1_reckon 27 = .ok (.isub, 1) := by decide +kernel
theorem dX1_reckon_28 : decode cX1_reckon 28 = .ok (.istore_n 2, 1) := by decide +kernel
theorem dX1_reckon_29 : decode cX1_reckon 29 = .ok (.iconst 0, 1) := by decide +kernel
theorem dX1_reckon_30 : decode cX1_reckon 30 = .ok (.istore_n 3, 1) := by decide +kernel
theorem dX1_reckon_31 : decode cX1_reckon 31 = .ok (.iconst 0, 1) := by decide +kernel
theorem dX1_reckon_32 : decode cX1_reckon 32 = .ok (.istore 4, 2) := by decide +kernel
theorem dX1_reckon_34 : decode cX1_reckon 34 = .ok (.iload 4, 2) := by decide +kernel
theorem dX1_reckon_36 : decode cX1_reckon 36 = .ok (.aload_n 0, 1) := by decide +kernel
theorem dX1_reckon_37 : decode cX1_reckon 37 = .ok (.getfield 13, 3) := by decide +kernel
theorem dX1_reckon_40 : decode cX1_reckon 40 = .ok (.if_icmp .ge 73, 3) := by decide +kernel
theorem dX1_reckon_43 : decode cX1_reckon 43 = .ok (.iload_n 1, 1) := by decide +kernel
theorem dX1_reckon_44 : decode cX1_reckon 44 = .ok (.iload 4, 2) := by decide +kernel
theorem dX1_reckon_46 : decode cX1_reckon 46 = .ok (.ishr, 1) := by decide +kernel
theorem dX1_reckon_47 : decode cX1_reckon 47 = .ok (.iconst 1, 1) := by decide +kernel
theorem dX1_reckon_48 : decode cX1_reckon 48 = .ok (.iand, 1) := by decide +kernel
theorem dX1_reckon_49 : decode cX1_reckon 49 = .ok (.ifCond .eq 58, 3) := by decide +kernel
theorem dX1_reckon_52 : decode cX1_reckon 52 = .ok (.aload_n 0, 1) := by decide +kernel
theorem dX1_reckon_53 : decode cX1_reckon 53 = .ok (.getfield 17, 3) := by decide +kernel
theorem dX1_reckon_56 : decode cX1_reckon 56 = .ok (.iload_n 1, 1) := by decide +kernel
theorem dX1_reckon_57 : decode cX1_reckon 57 = .ok (.iconst 1, 1) := by decide +kernel
theorem dX1_reckon_58 : decode cX1_reckon 58 = .ok (.iload 4, 2) := by decide +kernel
theorem dX1_reckon_60 : decode cX1_reckon 60 = .ok (.ishl, 1) := by decide +kernel
theorem dX1_reckon_61 : decode cX1_reckon 61 = .ok (.iconst (-1), 1) := by decide +kernel
theorem dX1_reckon_62 : decode cX1_reckon 62 = .ok (.ixor, 1) := by decide +kernel
theorem dX1_reckon_63 : decode cX1_reckon 63 = .ok (.iand, 1) := by decide +kernel
theorem dX1_reckon_64 : decode cX1_reckon 64 = .ok (.laload, 1) := by decide +kernel
theorem dX1_reckon_65 : decode cX1_reckon 65 = .ok (.aload_n 0, 1) := by decide +kernel
theorem dX1_reckon_66 : decode cX1_reckon 66 = .ok (.getfield 7, 3) := by decide +kernel
theorem dX1_reckon_69 : decode cX1_reckon 69 = .ok (.bipush 8, 2) := by decide +kernel
theorem dX1_reckon_71 : decode cX1_reckon 71 = .ok (.iload_n 2, 1) := by decide +kernel
theorem dX1_reckon_72 : decode cX1_reckon 72 = .ok (.imul, 1) := by decide +kernel
theorem dX1_reckon_73 : decode cX1_reckon 73 = .ok (.iload 4, 2) := by decide +kernel
theorem dX1_reckon_75 : decode cX1_reckon 75 = .ok (.iadd, 1) := by decide +kernel
theorem dX1_reckon_76 : decode cX1_reckon 76 = .ok (.iaload, 1) := by decide +kernel
theorem dX1_reckon_77 : decode cX1_reckon 77 = .ok (.i2l, 1) := by decide +kernel
theorem dX1_reckon_78 : decode cX1_reckon 78 = .ok (.ladd, 1) := by decide +kernel
theorem dX1_reckon_79 : decode cX1_reckon 79 = .ok (.lstore 5, 2) := by decide +kernel
theorem dX1_reckon_81 : decode cX1_reckon 81 = .ok (.iload_n 3, 1) := by decide +kernel
theorem dX1_reckon_82 : decode cX1_reckon 82 = .ok (.ifCond .eq 15, 3) := by decide +kernel
theorem dX1_reckon_85 : decode cX1_reckon 85 = .ok (.lload 5, 2) := by decide +kernel
theorem dX1_reckon_87 : decode cX1_reckon 87 = .ok (.aload_n 0, 1) := by decide +kernel
theorem dX1_reckon_88 : decode cX1_reckon 88 = .ok (.getfield 17, 3) := by decide +kernel
theorem dX1_reckon_91 : decode cX1_reckon 91 = .ok (.iload_n 1, 1) := by decide +kernel
theorem dX1_reckon_92 : decode cX1_reckon 92 = .ok (.laload, 1) := by decide +kernel
theorem dX1_reckon_93 : decode cX1_reckon 93 = .ok (.lcmp, 1) := by decide +kernel
theorem dX1_reckon_94 : decode cX1_reckon 94 = .ok (.ifCond .ge 13, 3) := by decide +kernel
theorem dX1_reckon_97 : decode cX1_reckon 97 = .ok (.aload_n 0, 1) := by decide +kernel
theorem dX1_reckon_98 : decode cX1_reckon 98 = .ok (.getfield 17, 3) := by decide +kernel
theorem dX1_reckon_101 : decode cX1_reckon 101 = .ok (.iload_n 1, 1) := by decide +kernel
theorem dX1_reckon_102 : decode cX1_reckon 102 = .ok (.lload 5, 2) := by decide +kernel
theorem dX1_reckon_104 : decode cX1_reckon 104 = .ok (.lastore, 1) := by decide +kernel
theorem dX1_reckon_105 : decode cX1_reckon 105 = .ok (.iconst 1, 1) := by decide +kernel
theorem dX1_reckon_106 : decode cX1_reckon 106 = .ok (.istore_n 3, 1) := by decide +kernel
theorem dX1_reckon_107 : decode cX1_reckon 107 = .ok (.iinc 4 1, 3) := by decide +kernel
theorem dX1_reckon_110 : decode cX1_reckon 110 = .ok (.goto (-76), 3) := by decide +kernel
theorem dX1_reckon_113 : decode cX1_reckon 113 = .ok (.iinc 1 1, 3) := by decide +kernel
theorem dX1_reckon_116 : decode cX1_reckon 116 = .ok (.goto (-107), 3) := by decide +kernel
theorem dX1_reckon_119 : decode cX1_reckon 119 = .ok (.iconst 1, 1) := by decide +kernel
theorem dX1_reckon_120 : decode cX1_reckon 120 = .ok (.aload_n 0, 1) := by decide +kernel
theorem dX1_reckon_121 : decode cX1_reckon 121 = .ok (.getfield 13, 3) := by decide +kernel
theorem dX1_reckon_124 : decode cX1_reckon 124 = .ok (.ishl, 1) := by decide +kernel
theorem dX1_reckon_125 : decode cX1_reckon 125 = .ok (.iconst 1, 1) := by decide +kernel
theorem dX1_reckon_126 : decode cX1_reckon 126 = .ok (.isub, 1) := by decide +kernel
theorem dX1_reckon_127 : decode cX1_reckon 127 = .ok (.istore_n 1, 1) := by decide +kernel
theorem dX1_reckon_128 : decode cX1_reckon 128 = .ok (.iconst 0, 1) := by decide +kernel
theorem dX1_reckon_129 : decode cX1_reckon 129 = .ok (.istore_n 2, 1) := by decide +kernel
theorem dX1_reckon_130 : decode cX1_reckon 130 = .ok (.iload_n 2, 1) := by decide +kernel
theorem dX1_reckon_131 : decode cX1_reckon 131 = .ok (.aload_n 0, 1) := by decide +kernel
theorem dX1_reckon_132 : decode cX1_reckon 132 = .ok (.getfield 13, 3) := by decide +kernel
theorem dX1_reckon_135 : decode cX1_reckon 135 = .ok (.if_icmp .ge 94, 3) := by decide +kernel
theorem dX1_reckon_138 : decode cX1_reckon 138 = .ok (.iconst (-1), 1) := by decide +kernel
theorem dX1_reckon_139 : decode cX1_reckon 139 = .ok (.istore_n 3, 1) := by decide +kernel
theorem dX1_reckon_140 : decode cX1_reckon 140 = .ok (.aload_n 0, 1) := by decide +kernel
theorem dX1_reckon_141 : decode cX1_reckon 141 = .ok (.getfield 13, 3) := by decide +kernel
theorem dX1_reckon_144 : decode cX1_reckon 144 = .ok (.iconst 1, 1) := by decide +kernel
theorem dX1_reckon_145 : decode cX1_reckon 145 = .ok (.isub, 1) := by decide +kernel
theorem dX1_reckon_146 : decode cX1_reckon 146 = .ok (.istore 4, 2) := by decide +kernel
theorem dX1_reckon_148 : decode cX1_reckon 148 = .ok (.iload 4, 2) := by decide +kernel
theorem dX1_reckon_150 : decode cX1_reckon 150 = .ok (.ifCond .lt 58, 3) := by decide +kernel
theorem dX1_reckon_153 : decode cX1_reckon 153 = .ok (.iload_n 1, 1) := by decide +kernel
theorem dX1_reckon_154 : decode cX1_reckon 154 = .ok (.iload 4, 2) := by decide +kernel
theorem dX1_reckon_156 : decode cX1_reckon 156 = .ok (.ishr, 1) := by decide +kernel
theorem dX1_reckon_157 : decode cX1_reckon 157 = .ok (.iconst 1, 1) := by decide +kernel
theorem dX1_reckon_158 : decode cX1_reckon 158 = .ok (.iand, 1) := by decide +kernel
theorem dX1_reckon_159 : decode cX1_reckon 159 = .ok (.ifCond .eq 43, 3) := by decide +kernel
theorem dX1_reckon_162 : decode cX1_reckon 162 = .ok (.aload_n 0, 1) := by decide +kernel
theorem dX1_reckon_163 : decode cX1_reckon 163 = .ok (.getfield 17, 3) := by decide +kernel
theorem dX1_reckon_166 : decode cX1_reckon 166 = .ok (.iload_n 1, 1) := by decide +kernel
theorem dX1_reckon_167 : decode cX1_reckon 167 = .ok (.iconst 1, 1) := by decide +kernel
theorem dX1_reckon_168 : decode cX1_reckon 168 = .ok (.iload 4, 2) := by decide +kernel
theorem dX1_reckon_170 : decode cX1_reckon 170 = .ok (.ishl, 1) := by decide +kernel
theorem dX1_reckon_171 : decode cX1_reckon 171 = .ok (.iconst (-1), 1) := by decide +kernel
theorem dX1_reckon_172 : decode cX1_reckon 172 = .ok (.ixor, 1) := by decide +kernel
theorem dX1_reckon_173 : decode cX1_reckon 173 = .ok (.iand, 1) := by decide +kernel
theorem dX1_reckon_174 : decode cX1_reckon 174 = .ok (.laload, 1) := by decide +kernel
theorem dX1_reckon_175 : decode cX1_reckon 175 = .ok (.aload_n 0, 1) := by decide +kernel
theorem dX1_reckon_176 : decode cX1_reckon 176 = .ok (.getfield 7, 3) := by decide +kernel
theorem dX1_reckon_179 : decode cX1_reckon 179 = .ok (.bipush 8, 2) := by decide +kernel
theorem dX1_reckon_181 : decode cX1_reckon 181 = .ok (.iload_n 2, 1) := by decide +kernel
theorem dX1_reckon_182 : decode cX1_reckon 182 = .ok (.imul, 1) := by decide +kernel
theorem dX1_reckon_183 : decode cX1_reckon 183 = .ok (.iload 4, 2) := by decide +kernel
theorem dX1_reckon_185 : decode cX1_reckon 185 = .ok (.iadd, 1) := by decide +kernel
theorem dX1_reckon_186 : decode cX1_reckon 186 = .ok (.iaload, 1) := by decide +kernel
theorem dX1_reckon_187 : decode cX1_reckon 187 = .ok (.i2l, 1) := by decide +kernel
theorem dX1_reckon_188 : decode cX1_reckon 188 = .ok (.ladd, 1) := by decide +kernel
theorem dX1_reckon_189 : decode cX1_reckon 189 = .ok (.aload_n 0, 1) := by decide +kernel
theorem dX1_reckon_190 : decode cX1_reckon 190 = .ok (.getfield 17, 3) := by decide +kernel
theorem dX1_reckon_193 : decode cX1_reckon 193 = .ok (.iload_n 1, 1) := by decide +kernel
theorem dX1_reckon_194 : decode cX1_reckon 194 = .ok (.laload, 1) := by decide +kernel
theorem dX1_reckon_195 : decode cX1_reckon 195 = .ok (.lcmp, 1) := by decide +kernel
theorem dX1_reckon_196 : decode cX1_reckon 196 = .ok (.ifCond .ne 6, 3) := by decide +kernel
theorem dX1_reckon_199 : decode cX1_reckon 199 = .ok (.iload 4, 2) := by decide +kernel
theorem dX1_reckon_201 : decode cX1_reckon 201 = .ok (.istore_n 3, 1) := by decide +kernel
theorem dX1_reckon_202 : decode cX1_reckon 202 = .ok (.iinc 4 (-1), 3) := by decide +kernel
theorem dX1_reckon_205 : decode cX1_reckon 205 = .ok (.goto (-57), 3) := by decide +kernel
theorem dX1_reckon_208 : decode cX1_reckon 208 = .ok (.aload_n 0, 1) := by decide +kernel
theorem dX1_reckon_209 : decode cX1_reckon 209 = .ok (.getfield 21, 3) := by decide +kernel
theorem dX1_reckon_212 : decode cX1_reckon 212 = .ok (.iload_n 2, 1) := by decide +kernel
theorem dX1_reckon_213 : decode cX1_reckon 213 = .ok (.iload_n 3, 1) := by decide +kernel
theorem dX1_reckon_214 : decode cX1_reckon 214 = .ok (.iastore, 1) := by decide +kernel
theorem dX1_reckon_215 : decode cX1_reckon 215 = .ok (.iload_n 1, 1) := by decide +kernel
theorem dX1_reckon_216 : decode cX1_reckon 216 = .ok (.iconst 1, 1) := by decide +kernel
theorem dX1_reckon_217 : decode cX1_reckon 217 = .ok (.iload_n 3, 1) := by decide +kernel
theorem dX1_reckon_218 : decode cX1_reckon 218 = .ok (.ishl, 1) := by decide +kernel
theorem dX1_reckon_219 : decode cX1_reckon 219 = .ok (.iconst (-1), 1) := by decide +kernel
theorem dX1_reckon_220 : decode cX1_reckon 220 = .ok (.ixor, 1) := by decide +kernel
theorem dX1_reckon_221 : decode cX1_reckon 221 = .ok (.iand, 1) := by decide +kernel
theorem dX1_reckon_222 : decode cX1_reckon 222 = .ok (.istore_n 1, 1) := by decide +kernel
theorem dX1_reckon_223 : decode cX1_reckon 223 = .ok (.iinc 2 1, 3) := by decide +kernel
theorem dX1_reckon_226 : decode cX1_reckon 226 = .ok (.goto (-96), 3) := by decide +kernel
theorem dX1_reckon_229 : decode cX1_reckon 229 = .ok (.aload_n 0, 1) := by decide +kernel
theorem dX1_reckon_230 : decode cX1_reckon 230 = .ok (.iconst 1, 1) := by decide +kernel
theorem dX1_reckon_231 : decode cX1_reckon 231 = .ok (.putfield 24, 3) := by decide +kernel
theorem dX1_reckon_234 : decode cX1_reckon 234 = .ok (.return_, 1) := by decide +kernel
abbrev cX1_count : ByteArray := prog_3_method_4_code
def yX1_count : MethodName := ⟨RX1, "count", "(I)I"⟩
theorem dX1_count_0 : decode cX1_count 0 = .ok (.iconst 0, 1) := by decide +kernel
theorem dX1_count_1 : decode cX1_count 1 = .ok (.istore_n 1, 1) := by decide +kernel
theorem dX1_count_2 : decode cX1_count 2 = .ok (.iload_n 0, 1) := by decide +kernel
theorem dX1_count_3 : decode cX1_count 3 = .ok (.istore_n 2, 1) := by decide +kernel
theorem dX1_count_4 : decode cX1_count 4 = .ok (.iload_n 2, 1) := by decide +kernel
theorem dX1_count_5 : decode cX1_count 5 = .ok (.ifCond .eq 16, 3) := by decide +kernel
theorem dX1_count_8 : decode cX1_count 8 = .ok (.iload_n 1, 1) := by decide +kernel
theorem dX1_count_9 : decode cX1_count 9 = .ok (.iload_n 2, 1) := by decide +kernel
theorem dX1_count_10 : decode cX1_count 10 = .ok (.iconst 1, 1) := by decide +kernel
theorem dX1_count_11 : decode cX1_count 11 = .ok (.iand, 1) := by decide +kernel
theorem dX1_count_12 : decode cX1_count 12 = .ok (.iadd, 1) := by decide +kernel
theorem dX1_count_13 : decode cX1_count 13 = .ok (.istore_n 1, 1) := by decide +kernel
theorem dX1_count_14 : decode cX1_count 14 = .ok (.iload_n 2, 1) := by decide +kernel
theorem dX1_count_15 : decode cX1_count 15 = .ok (.iconst 1, 1) := by decide +kernel
theorem dX1_count_16 : decode cX1_count 16 = .ok (.iushr, 1) := by decide +kernel
theorem dX1_count_17 : decode cX1_count 17 = .ok (.istore_n 2, 1) := by decide +kernel
theorem dX1_count_18 : decode cX1_count 18 = .ok (.goto (-14), 3) := by decide +kernel
theorem dX1_count_21 : decode cX1_count 21 = .ok (.iload_n 1, 1) := by decide +kernel
theorem dX1_count_22 : decode cX1_count 22 = .ok (.ireturn, 1) := by decide +kernel
abbrev cX1_given : ByteArray := prog_3_method_7_code
def yX1_given : MethodName := ⟨RX1, "given", "(I)I"⟩
theorem dX1_given_0 : decode cX1_given 0 = .ok (.aload_n 0, 1) := by decide +kernel
theorem dX1_given_1 : decode cX1_given 1 = .ok (.getfield 24, 3) := by decide +kernel
theorem dX1_given_4 : decode cX1_given 4 = .ok (.ifCond .ne 5, 3) := by decide +kernel
theorem dX1_given_7 : decode cX1_given 7 = .ok (.iconst (-1), 1) := by decide +kernel
theorem dX1_given_8 : decode cX1_given 8 = .ok (.ireturn, 1) := by decide +kernel
theorem dX1_given_9 : decode cX1_given 9 = .ok (.aload_n 0, 1) := by decide +kernel
theorem dX1_given_10 : decode cX1_given 10 = .ok (.getfield 21, 3) := by decide +kernel
theorem dX1_given_13 : decode cX1_given 13 = .ok (.iload_n 1, 1) := by decide +kernel
theorem dX1_given_14 : decode cX1_given 14 = .ok (.ldc 36, 2) := by decide +kernel
theorem dX1_given_16 : decode cX1_given 16 = .ok (.iand, 1) := by decide +kernel
theorem dX1_given_17 : decode cX1_given 17 = .ok (.aload_n 0, 1) := by decide +kernel
theorem dX1_given_18 : decode cX1_given 18 = .ok (.getfield 13, 3) := by decide +kernel
theorem dX1_given_21 : decode cX1_given 21 = .ok (.irem, 1) := by decide +kernel
theorem dX1_given_22 : decode cX1_given 22 = .ok (.iaload, 1) := by decide +kernel
theorem dX1_given_23 : decode cX1_given 23 = .ok (.ireturn, 1) := by decide +kernel
theorem q8 : (Jvm.Cond.initialized "PairDeskModel") ∈ lw_all := lw_g (lw_at lw_m0 2 rfl) rfl
theorem q101 : (Jvm.Cond.instantiable "PairDeskModel" (5 : Nat)) ∈ lw_all := lw_g (lw_at lw_m0 95 rfl) rfl
theorem q103 : (Jvm.Cond.instanceMethod ({ cls := "PairDeskModel", name := "<init>", desc := "()V" } : Jvm.MethodName)) ∈ lw_all := lw_g (lw_at lw_m0 97 rfl) rfl
theorem q104 : (Jvm.Cond.code ({ cls := "PairDeskModel", name := "<init>", desc := "()V" } : Jvm.MethodName) prog_3_method_1_code (1 : Nat) (Option.none : Option Jvm.ClassFile.FieldType)) ∈ lw_all := lw_g (lw_at lw_m0 98 rfl) rfl
theorem q105 : (Jvm.Cond.methodLink "PairDeskModel" (1 : Nat) ({ cls := "java/lang/Object", name := "<init>", desc := "()V" } : Jvm.MethodName)) ∈ lw_all := lw_g (lw_at lw_m0 99 rfl) rfl
theorem q106 : (Jvm.Cond.fieldLink "PairDeskModel" (7 : Nat) "PairDeskModel" "cost" "[I") ∈ lw_all := lw_g (lw_at lw_m0 100 rfl) rfl
theorem q107 : (Jvm.Cond.fieldLink "PairDeskModel" (13 : Nat) "PairDeskModel" "n" "I") ∈ lw_all := lw_g (lw_at lw_m0 101 rfl) rfl
theorem q108 : (Jvm.Cond.fieldLink "PairDeskModel" (17 : Nat) "PairDeskModel" "best" "[J") ∈ lw_all := lw_g (lw_at lw_m0 102 rfl) rfl
theorem q109 : (Jvm.Cond.fieldLink "PairDeskModel" (21 : Nat) "PairDeskModel" "given" "[I") ∈ lw_all := lw_g (lw_at lw_m0 103 rfl) rfl
theorem q110 : (Jvm.Cond.fieldLink "PairDeskModel" (24 : Nat) "PairDeskModel" "made" "Z") ∈ lw_all := lw_g (lw_at lw_m0 104 rfl) rfl
theorem q111 : (Jvm.Cond.laysFinal "PairDeskModel" "PairDeskModel" "cost" "[I") ∈ lw_all := lw_g (lw_at lw_m0 105 rfl) rfl
theorem q112 : (Jvm.Cond.soleField "PairDeskModel" "cost") ∈ lw_all := lw_g (lw_at lw_m0 106 rfl) rfl
theorem q113 : (Jvm.Cond.lays "PairDeskModel" "PairDeskModel" "n" "I") ∈ lw_all := lw_g (lw_at lw_m0 107 rfl) rfl
theorem q114 : (Jvm.Cond.soleField "PairDeskModel" "n") ∈ lw_all := lw_g (lw_at lw_m0 108 rfl) rfl
theorem q115 : (Jvm.Cond.laysFinal "PairDeskModel" "PairDeskModel" "best" "[J") ∈ lw_all := lw_g (lw_at lw_m0 109 rfl) rfl
theorem q116 : (Jvm.Cond.soleField "PairDeskModel" "best") ∈ lw_all := lw_g (lw_at lw_m0 110 rfl) rfl
theorem q117 : (Jvm.Cond.laysFinal "PairDeskModel" "PairDeskModel" "given" "[I") ∈ lw_all := lw_g (lw_at lw_m0 111 rfl) rfl
theorem q118 : (Jvm.Cond.soleField "PairDeskModel" "given") ∈ lw_all := lw_g (lw_at lw_m0 112 rfl) rfl
theorem q119 : (Jvm.Cond.lays "PairDeskModel" "PairDeskModel" "made" "Z") ∈ lw_all := lw_g (lw_at lw_m0 113 rfl) rfl
theorem q120 : (Jvm.Cond.soleField "PairDeskModel" "made") ∈ lw_all := lw_g (lw_at lw_m0 114 rfl) rfl
theorem q121 : (Jvm.Cond.superclass "PairDeskModel" "java/lang/Object") ∈ lw_all := lw_g (lw_at lw_m0 115 rfl) rfl
theorem q123 : (Jvm.Cond.instanceMethod ({ cls := "PairDeskModel", name := "size", desc := "(I)V" } : Jvm.MethodName)) ∈ lw_all := lw_g (lw_at lw_m0 117 rfl) rfl
theorem q124 : (Jvm.Cond.selects "PairDeskModel" ({ cls := "PairDeskModel", name := "size", desc := "(I)V" } : Jvm.MethodName) ({ cls := "PairDeskModel", name := "size", desc := "(I)V" } : Jvm.MethodName)) ∈ lw_all := lw_g (lw_at lw_m0 118 rfl) rfl
theorem q125 : (Jvm.Cond.code ({ cls := "PairDeskModel", name := "size", desc := "(I)V" } : Jvm.MethodName) prog_3_method_2_code (3 : Nat) (Option.none : Option Jvm.ClassFile.FieldType)) ∈ lw_all := lw_g (lw_at lw_m0 119 rfl) rfl
theorem q127 : (Jvm.Cond.instanceMethod ({ cls := "PairDeskModel", name := "cost", desc := "(IIIII)V" } : Jvm.MethodName)) ∈ lw_all := lw_g (lw_at lw_m0 121 rfl) rfl
theorem q128 : (Jvm.Cond.selects "PairDeskModel" ({ cls := "PairDeskModel", name := "cost", desc := "(IIIII)V" } : Jvm.MethodName) ({ cls := "PairDeskModel", name := "cost", desc := "(IIIII)V" } : Jvm.MethodName)) ∈ lw_all := lw_g (lw_at lw_m0 122 rfl) rfl
theorem q129 : (Jvm.Cond.code ({ cls := "PairDeskModel", name := "cost", desc := "(IIIII)V" } : Jvm.MethodName) prog_3_method_3_code (8 : Nat) (Option.none : Option Jvm.ClassFile.FieldType)) ∈ lw_all := lw_g (lw_at lw_m0 123 rfl) rfl
theorem q130 : (Jvm.Cond.constant "PairDeskModel" (28 : Nat) (1073741823 : Int32)) ∈ lw_all := lw_g (lw_at lw_m0 124 rfl) rfl
theorem q132 : (Jvm.Cond.instanceMethod ({ cls := "PairDeskModel", name := "least", desc := "()J" } : Jvm.MethodName)) ∈ lw_all := lw_g (lw_at lw_m0 126 rfl) rfl
theorem q133 : (Jvm.Cond.selects "PairDeskModel" ({ cls := "PairDeskModel", name := "least", desc := "()J" } : Jvm.MethodName) ({ cls := "PairDeskModel", name := "least", desc := "()J" } : Jvm.MethodName)) ∈ lw_all := lw_g (lw_at lw_m0 127 rfl) rfl
theorem q134 : (Jvm.Cond.code ({ cls := "PairDeskModel", name := "least", desc := "()J" } : Jvm.MethodName) prog_3_method_6_code (1 : Nat) (Option.some Jvm.ClassFile.FieldType.long)) ∈ lw_all := lw_g (lw_at lw_m0 128 rfl) rfl
theorem q135 : (Jvm.Cond.methodLink "PairDeskModel" (33 : Nat) ({ cls := "PairDeskModel", name := "reckon", desc := "()V" } : Jvm.MethodName)) ∈ lw_all := lw_g (lw_at lw_m0 129 rfl) rfl
theorem q136 : (Jvm.Cond.privateMethod ({ cls := "PairDeskModel", name := "reckon", desc := "()V" } : Jvm.MethodName)) ∈ lw_tbl := lw_at lw_m0 130 rfl
theorem q137 : (Jvm.Cond.instanceMethod ({ cls := "PairDeskModel", name := "reckon", desc := "()V" } : Jvm.MethodName)) ∈ lw_all := lw_g (lw_at lw_m0 131 rfl) rfl
theorem q138 : (Jvm.Cond.code ({ cls := "PairDeskModel", name := "reckon", desc := "()V" } : Jvm.MethodName) prog_3_method_5_code (7 : Nat) (Option.none : Option Jvm.ClassFile.FieldType)) ∈ lw_all := lw_g (lw_at lw_m0 132 rfl) rfl
theorem q139 : (Jvm.Cond.methodLink "PairDeskModel" (29 : Nat) ({ cls := "PairDeskModel", name := "count", desc := "(I)I" } : Jvm.MethodName)) ∈ lw_all := lw_g (lw_at lw_m0 133 rfl) rfl
theorem q140 : (Jvm.Cond.static ({ cls := "PairDeskModel", name := "count", desc := "(I)I" } : Jvm.MethodName)) ∈ lw_all := lw_g (lw_at lw_m0 134 rfl) rfl
theorem q141 : (Jvm.Cond.code ({ cls := "PairDeskModel", name := "count", desc := "(I)I" } : Jvm.MethodName) prog_3_method_4_code (3 : Nat) (Option.some Jvm.ClassFile.FieldType.int)) ∈ lw_all := lw_g (lw_at lw_m0 135 rfl) rfl
theorem q143 : (Jvm.Cond.instanceMethod ({ cls := "PairDeskModel", name := "given", desc := "(I)I" } : Jvm.MethodName)) ∈ lw_all := lw_g (lw_at lw_m0 137 rfl) rfl
theorem q144 : (Jvm.Cond.selects "PairDeskModel" ({ cls := "PairDeskModel", name := "given", desc := "(I)I" } : Jvm.MethodName) ({ cls := "PairDeskModel", name := "given", desc := "(I)I" } : Jvm.MethodName)) ∈ lw_all := lw_g (lw_at lw_m0 138 rfl) rfl
theorem q145 : (Jvm.Cond.code ({ cls := "PairDeskModel", name := "given", desc := "(I)I" } : Jvm.MethodName) prog_3_method_7_code (2 : Nat) (Option.some Jvm.ClassFile.FieldType.int)) ∈ lw_all := lw_g (lw_at lw_m0 139 rfl) rfl
theorem q146 : (Jvm.Cond.constant "PairDeskModel" (36 : Nat) (2147483647 : Int32)) ∈ lw_all := lw_g (lw_at lw_m0 140 rfl) rfl
theorem in_X1 : ∀ w ∈ wsX10, w ∈ lw_all := lw_in wsX10 [111, 113, 115, 117, 119] (by decide +kernel) (by decide +kernel)
end
section
/-! java/util/Arrays -/
set_option maxRecDepth 100000
def RJ0 : String := "java/util/Arrays"
abbrev cJ0_fill : ByteArray := prog_4_method_103_code
def yJ0_fill : MethodName := ⟨RJ0, "fill", "([II)V"⟩
theorem dJ0_fill_0 : decode cJ0_fill 0 = .ok (.iconst 0, 1) := by decide +kernel
theorem dJ0_fill_1 : decode cJ0_fill 1 = .ok (.istore_n 2, 1) := by decide +kernel
theorem dJ0_fill_2 : decode cJ0_fill 2 = .ok (.aload_n 0, 1) := by decide +kernel
theorem dJ0_fill_3 : decode cJ0_fill 3 = .ok (.arraylength, 1) := by decide +kernel
theorem dJ0_fill_4 : decode cJ0_fill 4 = .ok (.istore_n 3, 1) := by decide +kernel
theorem dJ0_fill_5 : decode cJ0_fill 5 = .ok (.iload_n 2, 1) := by decide +kernel
theorem dJ0_fill_6 : decode cJ0_fill 6 = .ok (.iload_n 3, 1) := by decide +kernel
theorem dJ0_fill_7 : decode cJ0_fill 7 = .ok (.if_icmp .ge 13, 3) := by decide +kernel
theorem dJ0_fill_10 : decode cJ0_fill 10 = .ok (.aload_n 0, 1) := by decide +kernel
theorem dJ0_fill_11 : decode cJ0_fill 11 = .ok (.iload_n 2, 1) := by decide +kernel
theorem dJ0_fill_12 : decode cJ0_fill 12 = .ok (.iload_n 1, 1) := by decide +kernel
theorem dJ0_fill_13 : decode cJ0_fill 13 = .ok (.iastore, 1) := by decide +kernel
theorem dJ0_fill_14 : decode cJ0_fill 14 = .ok (.iinc 2 1, 3) := by decide +kernel
theorem dJ0_fill_17 : decode cJ0_fill 17 = .ok (.goto (-12), 3) := by decide +kernel
theorem dJ0_fill_20 : decode cJ0_fill 20 = .ok (.return_, 1) := by decide +kernel
abbrev cJ0_fill_2 : ByteArray := prog_4_method_101_code
def yJ0_fill_2 : MethodName := ⟨RJ0, "fill", "([JJ)V"⟩
theorem dJ0_fill_2_0 : decode cJ0_fill_2 0 = .ok (.iconst 0, 1) := by decide +kernel
theorem dJ0_fill_2_1 : decode cJ0_fill_2 1 = .ok (.istore_n 3, 1) := by decide +kernel
theorem dJ0_fill_2_2 : decode cJ0_fill_2 2 = .ok (.aload_n 0, 1) := by decide +kernel
theorem dJ0_fill_2_3 : decode cJ0_fill_2 3 = .ok (.arraylength, 1) := by decide +kernel
theorem dJ0_fill_2_4 : decode cJ0_fill_2 4 = .ok (.istore 4, 2) := by decide +kernel
theorem dJ0_fill_2_6 : decode cJ0_fill_2 6 = .ok (.iload_n 3, 1) := by decide +kernel
theorem dJ0_fill_2_7 : decode cJ0_fill_2 7 = .ok (.iload 4, 2) := by decide +kernel
theorem dJ0_fill_2_9 : decode cJ0_fill_2 9 = .ok (.if_icmp .ge 13, 3) := by decide +kernel
theorem dJ0_fill_2_12 : decode cJ0_fill_2 12 = .ok (.aload_n 0, 1) := by decide +kernel
theorem dJ0_fill_2_13 : decode cJ0_fill_2 13 = .ok (.iload_n 3, 1) := by decide +kernel
theorem dJ0_fill_2_14 : decode cJ0_fill_2 14 = .ok (.lload_n 1, 1) := by decide +kernel
theorem dJ0_fill_2_15 : decode cJ0_fill_2 15 = .ok (.lastore, 1) := by decide +kernel
theorem dJ0_fill_2_16 : decode cJ0_fill_2 16 = .ok (.iinc 3 1, 3) := by decide +kernel
theorem dJ0_fill_2_19 : decode cJ0_fill_2 19 = .ok (.goto (-13), 3) := by decide +kernel
theorem dJ0_fill_2_22 : decode cJ0_fill_2 22 = .ok (.return_, 1) := by decide +kernel
abbrev cJ0_fill_3 : ByteArray := prog_4_method_111_code
def yJ0_fill_3 : MethodName := ⟨RJ0, "fill", "([ZZ)V"⟩
theorem dJ0_fill_3_0 : decode cJ0_fill_3 0 = .ok (.iconst 0, 1) := by decide +kernel
theorem dJ0_fill_3_1 : decode cJ0_fill_3 1 = .ok (.istore_n 2, 1) := by decide +kernel
theorem dJ0_fill_3_2 : decode cJ0_fill_3 2 = .ok (.aload_n 0, 1) := by decide +kernel
theorem dJ0_fill_3_3 : decode cJ0_fill_3 3 = .ok (.arraylength, 1) := by decide +kernel
theorem dJ0_fill_3_4 : decode cJ0_fill_3 4 = .ok (.istore_n 3, 1) := by decide +kernel
theorem dJ0_fill_3_5 : decode cJ0_fill_3 5 = .ok (.iload_n 2, 1) := by decide +kernel
theorem dJ0_fill_3_6 : decode cJ0_fill_3 6 = .ok (.iload_n 3, 1) := by decide +kernel
theorem dJ0_fill_3_7 : decode cJ0_fill_3 7 = .ok (.if_icmp .ge 13, 3) := by decide +kernel
theorem dJ0_fill_3_10 : decode cJ0_fill_3 10 = .ok (.aload_n 0, 1) := by decide +kernel
theorem dJ0_fill_3_11 : decode cJ0_fill_3 11 = .ok (.iload_n 2, 1) := by decide +kernel
theorem dJ0_fill_3_12 : decode cJ0_fill_3 12 = .ok (.iload_n 1, 1) := by decide +kernel
theorem dJ0_fill_3_13 : decode cJ0_fill_3 13 = .ok (.bastore, 1) := by decide +kernel
theorem dJ0_fill_3_14 : decode cJ0_fill_3 14 = .ok (.iinc 2 1, 3) := by decide +kernel
theorem dJ0_fill_3_17 : decode cJ0_fill_3 17 = .ok (.goto (-12), 3) := by decide +kernel
theorem dJ0_fill_3_20 : decode cJ0_fill_3 20 = .ok (.return_, 1) := by decide +kernel
theorem q9 : (Jvm.Cond.initialized "java/util/Arrays") ∈ lw_all := lw_g (lw_at lw_m0 3 rfl) rfl
theorem q57 : (Jvm.Cond.static ({ cls := "java/util/Arrays", name := "fill", desc := "([II)V" } : Jvm.MethodName)) ∈ lw_all := lw_g (lw_at lw_m0 51 rfl) rfl
theorem q58 : (Jvm.Cond.code ({ cls := "java/util/Arrays", name := "fill", desc := "([II)V" } : Jvm.MethodName) prog_4_method_103_code (4 : Nat) (Option.none : Option Jvm.ClassFile.FieldType)) ∈ lw_all := lw_g (lw_at lw_m0 52 rfl) rfl
theorem q73 : (Jvm.Cond.static ({ cls := "java/util/Arrays", name := "fill", desc := "([JJ)V" } : Jvm.MethodName)) ∈ lw_all := lw_g (lw_at lw_m0 67 rfl) rfl
theorem q74 : (Jvm.Cond.code ({ cls := "java/util/Arrays", name := "fill", desc := "([JJ)V" } : Jvm.MethodName) prog_4_method_101_code (5 : Nat) (Option.none : Option Jvm.ClassFile.FieldType)) ∈ lw_all := lw_g (lw_at lw_m0 68 rfl) rfl
theorem q81 : (Jvm.Cond.static ({ cls := "java/util/Arrays", name := "fill", desc := "([ZZ)V" } : Jvm.MethodName)) ∈ lw_all := lw_g (lw_at lw_m0 75 rfl) rfl
theorem q82 : (Jvm.Cond.code ({ cls := "java/util/Arrays", name := "fill", desc := "([ZZ)V" } : Jvm.MethodName) prog_4_method_111_code (4 : Nat) (Option.none : Option Jvm.ClassFile.FieldType)) ∈ lw_all := lw_g (lw_at lw_m0 76 rfl) rfl
/-! java/lang/Object -/
set_option maxRecDepth 100000
def RJ1 : String := "java/lang/Object"
abbrev cJ1_init : ByteArray := object_method_1_code
def yJ1_init : MethodName := ⟨RJ1, "<init>", "()V"⟩
theorem dJ1_init_0 : decode cJ1_init 0 = .ok (.return_, 1) := by decide +kernel
theorem q16 : (Jvm.Cond.instanceMethod ({ cls := "java/lang/Object", name := "<init>", desc := "()V" } : Jvm.MethodName)) ∈ lw_all := lw_g (lw_at lw_m0 10 rfl) rfl
theorem q17 : (Jvm.Cond.code ({ cls := "java/lang/Object", name := "<init>", desc := "()V" } : Jvm.MethodName) object_method_1_code (1 : Nat) (Option.none : Option Jvm.ClassFile.FieldType)) ∈ lw_all := lw_g (lw_at lw_m0 11 rfl) rfl
theorem q49 : (Jvm.Cond.arrayClass Jvm.ClassFile.FieldType.int) ∈ lw_all := lw_g (lw_at lw_m0 43 rfl) rfl
set_option maxRecDepth 100000
theorem q50 : (Jvm.Cond.arrayClass Jvm.ClassFile.FieldType.long) ∈ lw_all := lw_g (lw_at lw_m0 44 rfl) rfl
theorem q51 : (Jvm.Cond.arrayClass Jvm.ClassFile.FieldType.boolean) ∈ lw_all := lw_g (lw_at lw_m0 45 rfl) rfl
theorem q6 : (Jvm.Cond.initialized "PairDeskLaw") ∈ lw_all := lw_g (lw_at lw_m0 0 rfl) rfl
set_option maxRecDepth 100000
theorem q10 : (Jvm.Cond.classLink "PairDeskLaw" (7 : Nat) "PairDesk") ∈ lw_all := lw_g (lw_at lw_m0 4 rfl) rfl
theorem q12 : (Jvm.Cond.methodLink "PairDeskLaw" (9 : Nat) ({ cls := "PairDesk", name := "<init>", desc := "()V" } : Jvm.MethodName)) ∈ lw_all := lw_g (lw_at lw_m0 6 rfl) rfl
theorem q52 : (Jvm.Cond.methodLink "PairDeskLaw" (13 : Nat) ({ cls := "PairDesk", name := "size", desc := "(I)V" } : Jvm.MethodName)) ∈ lw_all := lw_g (lw_at lw_m0 46 rfl) rfl
theorem q59 : (Jvm.Cond.methodLink "PairDeskLaw" (18 : Nat) ({ cls := "PairDesk", name := "cost", desc := "(IIIII)V" } : Jvm.MethodName)) ∈ lw_all := lw_g (lw_at lw_m0 53 rfl) rfl
theorem q68 : (Jvm.Cond.methodLink "PairDeskLaw" (23 : Nat) ({ cls := "PairDesk", name := "least", desc := "()J" } : Jvm.MethodName)) ∈ lw_all := lw_g (lw_at lw_m0 62 rfl) rfl
theorem q95 : (Jvm.Cond.methodLink "PairDeskLaw" (28 : Nat) ({ cls := "PairDesk", name := "given", desc := "(I)I" } : Jvm.MethodName)) ∈ lw_all := lw_g (lw_at lw_m0 89 rfl) rfl
theorem q100 : (Jvm.Cond.classLink "PairDeskLaw" (10 : Nat) "PairDeskModel") ∈ lw_all := lw_g (lw_at lw_m0 94 rfl) rfl
theorem q102 : (Jvm.Cond.methodLink "PairDeskLaw" (12 : Nat) ({ cls := "PairDeskModel", name := "<init>", desc := "()V" } : Jvm.MethodName)) ∈ lw_all := lw_g (lw_at lw_m0 96 rfl) rfl
theorem q122 : (Jvm.Cond.methodLink "PairDeskLaw" (17 : Nat) ({ cls := "PairDeskModel", name := "size", desc := "(I)V" } : Jvm.MethodName)) ∈ lw_all := lw_g (lw_at lw_m0 116 rfl) rfl
theorem q126 : (Jvm.Cond.methodLink "PairDeskLaw" (22 : Nat) ({ cls := "PairDeskModel", name := "cost", desc := "(IIIII)V" } : Jvm.MethodName)) ∈ lw_all := lw_g (lw_at lw_m0 120 rfl) rfl
theorem q131 : (Jvm.Cond.methodLink "PairDeskLaw" (27 : Nat) ({ cls := "PairDeskModel", name := "least", desc := "()J" } : Jvm.MethodName)) ∈ lw_all := lw_g (lw_at lw_m0 125 rfl) rfl
theorem q142 : (Jvm.Cond.methodLink "PairDeskLaw" (32 : Nat) ({ cls := "PairDeskModel", name := "given", desc := "(I)I" } : Jvm.MethodName)) ∈ lw_all := lw_g (lw_at lw_m0 136 rfl) rfl
/-! the law's own entry -/
set_option maxRecDepth 100000
abbrev cL_law : ByteArray := code
theorem dL_law_0 : decode cL_law 0 = .ok (.new 7, 3) := by decide +kernel
theorem dL_law_3 : decode cL_law 3 = .ok (.dup, 1) := by decide +kernel
theorem dL_law_4 : decode cL_law 4 = .ok (.invokespecial 9, 3) := by decide +kernel
theorem dL_law_7 : decode cL_law 7 = .ok (.astore_n 1, 1) := by decide +kernel
theorem dL_law_8 : decode cL_law 8 = .ok (.new 10, 3) := by decide +kernel
theorem dL_law_11 : decode cL_law 11 = .ok (.dup, 1) := by decide +kernel
theorem dL_law_12 : decode cL_law 12 = .ok (.invokespecial 12, 3) := by decide +kernel
theorem dL_law_15 : decode cL_law 15 = .ok (.astore_n 2, 1) := by decide +kernel
theorem dL_law_16 : decode cL_law 16 = .ok (.iconst 0, 1) := by decide +kernel
theorem dL_law_17 : decode cL_law 17 = .ok (.istore_n 3, 1) := by decide +kernel
theorem dL_law_18 : decode cL_law 18 = .ok (.iload_n 3, 1) := by decide +kernel
theorem dL_law_19 : decode cL_law 19 = .ok (.aload_n 0, 1) := by decide +kernel
theorem dL_law_20 : decode cL_law 20 = .ok (.arraylength, 1) := by decide +kernel
theorem dL_law_21 : decode cL_law 21 = .ok (.bipush 6, 2) := by decide +kernel
theorem dL_law_23 : decode cL_law 23 = .ok (.isub, 1) := by decide +kernel
theorem dL_law_24 : decode cL_law 24 = .ok (.if_icmp .gt 165, 3) := by decide +kernel
theorem dL_law_27 : decode cL_law 27 = .ok (.aload_n 0, 1) := by decide +kernel
theorem dL_law_28 : decode cL_law 28 = .ok (.iload_n 3, 1) := by decide +kernel
theorem dL_law_29 : decode cL_law 29 = .ok (.iaload, 1) := by decide +kernel
theorem dL_law_30 : decode cL_law 30 = .ok (.iconst 3, 1) := by decide +kernel
theorem dL_law_31 : decode cL_law 31 = .ok (.iand, 1) := by decide +kernel
theorem dL_law_32 : decode cL_law 32 = .ok (.tableswitch 151 0 3 #[32, 53, 114, 128], 32) := by decide +kernel
theorem dL_law_64 : decode cL_law 64 = .ok (.aload_n 1, 1) := by decide +kernel
theorem dL_law_65 : decode cL_law 65 = .ok (.aload_n 0, 1) := by decide +kernel
theorem dL_law_66 : decode cL_law 66 = .ok (.iload_n 3, 1) := by decide +kernel
theorem dL_law_67 : decode cL_law 67 = .ok (.iconst 1, 1) := by decide +kernel
theorem dL_law_68 : decode cL_law 68 = .ok (.iadd, 1) := by decide +kernel
theorem dL_law_69 : decode cL_law 69 = .ok (.iaload, 1) := by decide +kernel
theorem dL_law_70 : decode cL_law 70 = .ok (.invokevirtual 13, 3) := by decide +kernel
theorem dL_law_73 : decode cL_law 73 = .ok (.aload_n 2, 1) := by decide +kernel
theorem dL_law_74 : decode cL_law 74 = .ok (.aload_n 0, 1) := by decide +kernel
theorem dL_law_75 : decode cL_law 75 = .ok (.iload_n 3, 1) := by decide +kernel
theorem dL_law_76 : decode cL_law 76 = .ok (.iconst 1, 1) := by decide +kernel
theorem dL_law_77 : decode cL_law 77 = .ok (.iadd, 1) := by decide +kernel
theorem dL_law_78 : decode cL_law 78 = .ok (.iaload, 1) := by decide +kernel
theorem dL_law_79 : decode cL_law 79 = .ok (.invokevirtual 17, 3) := by decide +kernel
theorem dL_law_82 : decode cL_law 82 = .ok (.goto 101, 3) := by decide +kernel
theorem dL_law_85 : decode cL_law 85 = .ok (.aload_n 1, 1) := by decide +kernel
theorem dL_law_86 : decode cL_law 86 = .ok (.aload_n 0, 1) := by decide +kernel
theorem dL_law_87 : decode cL_law 87 = .ok (.iload_n 3, 1) := by decide +kernel
theorem dL_law_88 : decode cL_law 88 = .ok (.iconst 1, 1) := by decide +kernel
theorem dL_law_89 : decode cL_law 89 = .ok (.iadd, 1) := by decide +kernel
theorem dL_law_90 : decode cL_law 90 = .ok (.iaload, 1) := by decide +kernel
theorem dL_law_91 : decode cL_law 91 = .ok (.aload_n 0, 1) := by decide +kernel
theorem dL_law_92 : decode cL_law 92 = .ok (.iload_n 3, 1) := by decide +kernel
theorem dL_law_93 : decode cL_law 93 = .ok (.iconst 2, 1) := by decide +kernel
theorem dL_law_94 : decode cL_law 94 = .ok (.iadd, 1) := by decide +kernel
theorem dL_law_95 : decode cL_law 95 = .ok (.iaload, 1) := by decide +kernel
theorem dL_law_96 : decode cL_law 96 = .ok (.aload_n 0, 1) := by decide +kernel
theorem dL_law_97 : decode cL_law 97 = .ok (.iload_n 3, 1) := by decide +kernel
theorem dL_law_98 : decode cL_law 98 = .ok (.iconst 3, 1) := by decide +kernel
theorem dL_law_99 : decode cL_law 99 = .ok (.iadd, 1) := by decide +kernel
theorem dL_law_100 : decode cL_law 100 = .ok (.iaload, 1) := by decide +kernel
theorem dL_law_101 : decode cL_law 101 = .ok (.aload_n 0, 1) := by decide +kernel
theorem dL_law_102 : decode cL_law 102 = .ok (.iload_n 3, 1) := by decide +kernel
theorem dL_law_103 : decode cL_law 103 = .ok (.iconst 4, 1) := by decide +kernel
theorem dL_law_104 : decode cL_law 104 = .ok (.iadd, 1) := by decide +kernel
theorem dL_law_105 : decode cL_law 105 = .ok (.iaload, 1) := by decide +kernel
theorem dL_law_106 : decode cL_law 106 = .ok (.aload_n 0, 1) := by decide +kernel
theorem dL_law_107 : decode cL_law 107 = .ok (.iload_n 3, 1) := by decide +kernel
theorem dL_law_108 : decode cL_law 108 = .ok (.iconst 5, 1) := by decide +kernel
theorem dL_law_109 : decode cL_law 109 = .ok (.iadd, 1) := by decide +kernel
theorem dL_law_110 : decode cL_law 110 = .ok (.iaload, 1) := by decide +kernel
theorem dL_law_111 : decode cL_law 111 = .ok (.invokevirtual 18, 3) := by decide +kernel
theorem dL_law_114 : decode cL_law 114 = .ok (.aload_n 2, 1) := by decide +kernel
theorem dL_law_115 : decode cL_law 115 = .ok (.aload_n 0, 1) := by decide +kernel
theorem dL_law_116 : decode cL_law 116 = .ok (.iload_n 3, 1) := by decide +kernel
theorem dL_law_117 : decode cL_law 117 = .ok (.iconst 1, 1) := by decide +kernel
theorem dL_law_118 : decode cL_law 118 = .ok (.iadd, 1) := by decide +kernel
theorem dL_law_119 : decode cL_law 119 = .ok (.iaload, 1) := by decide +kernel
theorem dL_law_120 : decode cL_law 120 = .ok (.aload_n 0, 1) := by decide +kernel
theorem dL_law_121 : decode cL_law 121 = .ok (.iload_n 3, 1) := by decide +kernel
theorem dL_law_122 : decode cL_law 122 = .ok (.iconst 2, 1) := by decide +kernel
theorem dL_law_123 : decode cL_law 123 = .ok (.iadd, 1) := by decide +kernel
theorem dL_law_124 : decode cL_law 124 = .ok (.iaload, 1) := by decide +kernel
theorem dL_law_125 : decode cL_law 125 = .ok (.aload_n 0, 1) := by decide +kernel
theorem dL_law_126 : decode cL_law 126 = .ok (.iload_n 3, 1) := by decide +kernel
theorem dL_law_127 : decode cL_law 127 = .ok (.iconst 3, 1) := by decide +kernel
theorem dL_law_128 : decode cL_law 128 = .ok (.iadd, 1) := by decide +kernel
theorem dL_law_129 : decode cL_law 129 = .ok (.iaload, 1) := by decide +kernel
theorem dL_law_130 : decode cL_law 130 = .ok (.aload_n 0, 1) := by decide +kernel
theorem dL_law_131 : decode cL_law 131 = .ok (.iload_n 3, 1) := by decide +kernel
theorem dL_law_132 : decode cL_law 132 = .ok (.iconst 4, 1) := by decide +kernel
theorem dL_law_133 : decode cL_law 133 = .ok (.iadd, 1) := by decide +kernel
theorem dL_law_134 : decode cL_law 134 = .ok (.iaload, 1) := by decide +kernel
theorem dL_law_135 : decode cL_law 135 = .ok (.aload_n 0, 1) := by decide +kernel
theorem dL_law_136 : decode cL_law 136 = .ok (.iload_n 3, 1) := by decide +kernel
theorem dL_law_137 : decode cL_law 137 = .ok (.iconst 5, 1) := by decide +kernel
theorem dL_law_138 : decode cL_law 138 = .ok (.iadd, 1) := by decide +kernel
theorem dL_law_139 : decode cL_law 139 = .ok (.iaload, 1) := by decide +kernel
theorem dL_law_140 : decode cL_law 140 = .ok (.invokevirtual 22, 3) := by decide +kernel
theorem dL_law_143 : decode cL_law 143 = .ok (.goto 40, 3) := by decide +kernel
theorem dL_law_146 : decode cL_law 146 = .ok (.aload_n 1, 1) := by decide +kernel
theorem dL_law_147 : decode cL_law 147 = .ok (.invokevirtual 23, 3) := by decide +kernel
theorem dL_law_150 : decode cL_law 150 = .ok (.aload_n 2, 1) := by decide +kernel
theorem dL_law_151 : decode cL_law 151 = .ok (.invokevirtual 27, 3) := by decide +kernel
theorem dL_law_154 : decode cL_law 154 = .ok (.lcmp, 1) := by decide +kernel
theorem dL_law_155 : decode cL_law 155 = .ok (.ifCond .eq 28, 3) := by decide +kernel
theorem dL_law_158 : decode cL_law 158 = .ok (.iconst 0, 1) := by decide +kernel
theorem dL_law_159 : decode cL_law 159 = .ok (.ireturn, 1) := by decide +kernel
theorem dL_law_160 : decode cL_law 160 = .ok (.aload_n 1, 1) := by decide +kernel
theorem dL_law_161 : decode cL_law 161 = .ok (.aload_n 0, 1) := by decide +kernel
theorem dL_law_162 : decode cL_law 162 = .ok (.iload_n 3, 1) := by decide +kernel
theorem dL_law_163 : decode cL_law 163 = .ok (.iconst 1, 1) := by decide +kernel
theorem dL_law_164 : decode cL_law 164 = .ok (.iadd, 1) := by decide +kernel
theorem dL_law_165 : decode cL_law 165 = .ok (.iaload, 1) := by decide +kernel
theorem dL_law_166 : decode cL_law 166 = .ok (.invokevirtual 28, 3) := by decide +kernel
theorem dL_law_169 : decode cL_law 169 = .ok (.aload_n 2, 1) := by decide +kernel
theorem dL_law_170 : decode cL_law 170 = .ok (.aload_n 0, 1) := by decide +kernel
theorem dL_law_171 : decode cL_law 171 = .ok (.iload_n 3, 1) := by decide +kernel
theorem dL_law_172 : decode cL_law 172 = .ok (.iconst 1, 1) := by decide +kernel
theorem dL_law_173 : decode cL_law 173 = .ok (.iadd, 1) := by decide +kernel
theorem dL_law_174 : decode cL_law 174 = .ok (.iaload, 1) := by decide +kernel
theorem dL_law_175 : decode cL_law 175 = .ok (.invokevirtual 32, 3) := by decide +kernel
theorem dL_law_178 : decode cL_law 178 = .ok (.if_icmp .eq 5, 3) := by decide +kernel
theorem dL_law_181 : decode cL_law 181 = .ok (.iconst 0, 1) := by decide +kernel
theorem dL_law_182 : decode cL_law 182 = .ok (.ireturn, 1) := by decide +kernel
theorem dL_law_183 : decode cL_law 183 = .ok (.iinc 3 6, 3) := by decide +kernel
theorem dL_law_186 : decode cL_law 186 = .ok (.goto (-168), 3) := by decide +kernel
theorem dL_law_189 : decode cL_law 189 = .ok (.iconst 1, 1) := by decide +kernel
theorem dL_law_190 : decode cL_law 190 = .ok (.ireturn, 1) := by decide +kernel
end
section
/-! the worlds of the two classes, and rows over them -/
set_option maxRecDepth 100000
abbrev vwCl : List vw_C := [(RX0, TX0, 10), (RX1, TX1, 5)]
/-- a desk: the object and its eight arrays -/
def pdF (ad : Nat → Nat) (nn rk : Int32) : List Value := [.ref (ad 0), .int nn, .int rk, .ref (ad 1), .ref (ad 2), .ref (ad 3), .ref (ad 4), .ref (ad 5), .ref (ad 6), .ref (ad 7)]
def pdW (h : Nat) (ad : Nat → Nat) (cs : Nat → ClassId) (nn rk : Int32) (co : Nat → Int32) (u v : Nat → Int64) (ro cl : Nat → Int32) (wy : Nat → Int64) (be dn : Nat → Int32) : va_W := [(h, .inr (0, pdF ad nn rk)), (ad 0, .inl (cs 0, 64, .inl co)), (ad 1, .inl (cs 1, 8, .inr (.inl u))), (ad 2, .inl (cs 2, 9, .inr (.inl v))), (ad 3, .inl (cs 3, 9, .inl ro)), (ad 4, .inl (cs 4, 8, .inl cl)), (ad 5, .inl (cs 5, 8, .inr (.inl wy))), (ad 6, .inl (cs 6, 8, .inl be)), (ad 7, .inl (cs 7, 9, .inl dn))]
def pdT (cs : Nat → ClassId) : List (ClassId × FieldType) := [(cs 0, .int), (cs 1, .long), (cs 2, .long), (cs 3, .int), (cs 4, .int), (cs 5, .long), (cs 6, .int), (cs 7, .boolean)]
/-- the reference: the object and its three arrays -/
def pmF (ad : Nat → Nat) (nn mk : Int32) : List Value := [.ref (ad 0), .int nn, .ref (ad 1), .ref (ad 2), .int mk]
def pmW (h : Nat) (ad : Nat → Nat) (cs : Nat → ClassId) (nn mk : Int32) (co : Nat → Int32) (bs : Nat → Int64) (gv : Nat → Int32) : va_W := [(h, .inr (1, pmF ad nn mk)), (ad 0, .inl (cs 0, 64, .inl co)), (ad 1, .inl (cs 1, 256, .inr (.inl bs))), (ad 2, .inl (cs 2, 8, .inl gv))]
def pmT (cs : Nat → ClassId) : List (ClassId × FieldType) := [(cs 0, .int), (cs 1, .long), (cs 2, .int)]
/-- a contract's start and end, over a world w -/
def pdPre (dC : Nat → ClassId) (dI : Nat → Nat → Nat) (tys : List (ClassId × FieldType)) (sz : Nat) (w : va_W) (U : State) : Prop := U.heap.size = sz ∧ va_P (dC, dI) vwCl w U.heap ∧ va_K (dC, dI) vwCl tys U ∧ va_D (fun _ => True) w
def pdPost (dC : Nat → ClassId) (dI : Nat → Nat → Nat) (A : Nat → Prop) (w : va_W) (t : State) : Prop := va_P (dC, dI) vwCl w t.heap ∧ va_D A w
theorem pd_blind {As : List Value} {dC : Nat → ClassId} {dI : Nat → Nat → Nat} {tys : List (ClassId × FieldType)} {sz : Nat} {w : va_W} : FrameBlind (va_Pc As (pdPre dC dI tys sz w)) := by
  intro a U g mk q
  obtain ⟨q0, q1, qP, qK, qD⟩ := q
  exact ⟨q0, q1, qP, va_K.moved (u := U) (U := U.calling g mk a) (Vm.Alike.refl U.vm) qK, qD⟩
theorem pd_setP {D : va_G} {cl : List vw_C} {A : Nat → Prop} {ws : va_W} {H H1 : Heap} {q0 a : Nat} {e e1 : va_E} (hP : va_P D cl ws H) (hD : va_D A ws) (he : ws[q0]? = some (a, e)) (hk : ∀ q, q < H.size → ¬ va_A [(a, e)] H.size q → H1[q]? = H[q]?) (h1 : va_at D cl (a, e1) H1) : va_P D cl (ws.set q0 (a, e1)) H1 := by
  intro k q hq
  by_cases hkq : k = q0
  · subst hkq
    have hlt : k < ws.length := (List.getElem?_eq_some_iff.mp he).1
    rw [List.getElem?_set_self hlt] at hq
    cases hq
    exact h1
  · rw [List.getElem?_set_ne (Ne.symm hkq)] at hq
    refine (hP k q hq).kept (hk q.1 (hP k q hq).lt ?_)
    rintro (⟨j, e2, hj⟩ | h)
    · have hz : q.1 = a := by
        match j, hj with
        | 0, hj => cases hj; rfl
        | j + 1, hj => simp at hj
      exact hkq (hD.1 k q0 q (a, e) hq he hz)
    · exact absurd (hP k q hq).lt (by omega)
theorem pd_left {A : Nat → Prop} {w wr : va_W} (h : va_D A (w ++ wr)) : va_D A w := by
  refine ⟨fun i j p q hi hj e => ?_, fun k q hk => ?_⟩
  · have li : i < w.length := (List.getElem?_eq_some_iff.mp hi).1
    have lj : j < w.length := (List.getElem?_eq_some_iff.mp hj).1
    exact h.1 i j p q (by rw [List.getElem?_append_left li]; exact hi) (by rw [List.getElem?_append_left lj]; exact hj) e
  · have lk : k < w.length := (List.getElem?_eq_some_iff.mp hk).1
    exact h.2 k q (by rw [List.getElem?_append_left lk]; exact hk)
theorem pd_right {A : Nat → Prop} {w wr : va_W} (h : va_D A (w ++ wr)) : va_D A wr := by
  refine ⟨fun i j p q hi hj e => ?_, fun k q hk => ?_⟩
  · have := h.1 (w.length + i) (w.length + j) p q (by rw [List.getElem?_append_right (by omega)]; simpa using hi) (by rw [List.getElem?_append_right (by omega)]; simpa using hj) e
    omega
  · exact h.2 (w.length + k) q (by rw [List.getElem?_append_right (by omega)]; simpa using hk)
theorem pd_apart {A : Nat → Prop} {w wr : va_W} (h : va_D A (w ++ wr)) {i j : Nat} {p q : Nat × va_E} (hi : w[i]? = some p) (hj : wr[j]? = some q) : p.1 ≠ q.1 := by
  intro e
  have li : i < w.length := (List.getElem?_eq_some_iff.mp hi).1
  have := h.1 i (w.length + j) p q (by rw [List.getElem?_append_left li]; exact hi) (by rw [List.getElem?_append_right (by omega)]; simpa using hj) e
  omega
theorem pd_swap {A : Nat → Prop} {w wr : va_W} (h : va_D A (w ++ wr)) : va_D A (wr ++ w) := (pd_right h).app (pd_left h) (fun _ _ _ _ hi hj e => pd_apart h hj hi e.symm)
/-- the frame: what is apart from the callee's cells stays -/
theorem pd_frame {D : va_G} {cl : List vw_C} {A : Nat → Prop} {w wr w1 : va_W} {H H1 : Heap} (hPr : va_P D cl wr H) (hD : va_D A (w ++ wr)) (hF : ∀ q, va_A w H.size q → A q) (hk : ∀ q, q < H.size → ¬ va_A w H.size q → H1[q]? = H[q]?) (hD1 : va_D (va_A w H.size) w1) : va_P D cl wr H1 ∧ va_D A (w1 ++ wr) := by
  have hn : ∀ (k : Nat) (q : Nat × va_E), wr[k]? = some q → ¬ va_A w H.size q.1 := by
    intro k q hq
    rintro (⟨j, e2, hj⟩ | h)
    · exact pd_apart hD hj hq rfl
    · exact absurd (hPr k q hq).lt (by omega)
  refine ⟨fun k q hq => (hPr k q hq).kept (hk q.1 (hPr k q hq).lt (hn k q hq)), ?_⟩
  refine (hD1.weaken (fun _ q _ h => hF q.1 h)).app (pd_right hD) (fun i j p q hi hj e => ?_)
  exact hn j q hj (by rw [← e]; exact hD1.2 i p hi)

section PRN
variable {p : Program} {l : Launch} {e : Env} {R : Room} {s : State} {m : MethodId} {args : Array Value} {below : List Frame} {meth : Method} {c : Code} {H : Heap} {locs : List Loc} {cells slots : Nat} {Q : State → Prop}
variable {cc : ByteArray} {pc : Nat} {ls : Array Slot} {rest : List Value} {dC : Nat → ClassId} {dI : Nat → Nat → Nat} {A : Nat → Prop} {nL : Nat}
theorem pr_eqi {x y : Int32} (h : x = y) (k : W p l e R s m args below meth c H locs cells slots Q (F0 m pc ls (.int y :: rest))) : W p l e R s m args below meth c H locs cells slots Q (F0 m pc ls (.int x :: rest)) := h ▸ k
theorem pr_eql {x y : Int64} (h : x = y) (k : W p l e R s m args below meth c H locs cells slots Q (F0 m pc ls (.long y :: rest))) : W p l e R s m args below meth c H locs cells slots Q (F0 m pc ls (.long x :: rest)) := h ▸ k
theorem pn_ge (hx : p.tables.exec = Jvm.exec) (hb : c.code = cc) {a b : Nat} (ha2 : a < 2 ^ 31) (hb2 : b < 2 ^ 31) {off : Int} {tgt : Nat} (hdg : decode cc pc = .ok (.if_icmp .ge off, 3)) (ht : (pc : Int) + off = (tgt : Int)) (kt : b ≤ a → W p l e R s m args below meth c H locs cells slots Q (F0 m tgt ls rest)) (kf : a < b → W p l e R s m args below meth c H locs cells slots Q (F0 m (pc + 3) ls rest)) : W p l e R s m args below meth c H locs cells slots Q (F0 m pc ls (.int (nI b) :: .int (nI a) :: rest)) := lv_icmp_ge hx hb hdg ht (fun q => kt ((nI_leI hb2 ha2).mp q)) (fun q => kf (Nat.lt_of_not_le (fun z => q ((nI_leI hb2 ha2).mpr z))))
theorem pn_lt (hx : p.tables.exec = Jvm.exec) (hb : c.code = cc) {a b : Nat} (ha2 : a < 2 ^ 31) (hb2 : b < 2 ^ 31) {off : Int} {tgt : Nat} (hdg : decode cc pc = .ok (.if_icmp .lt off, 3)) (ht : (pc : Int) + off = (tgt : Int)) (kt : a < b → W p l e R s m args below meth c H locs cells slots Q (F0 m tgt ls rest)) (kf : b ≤ a → W p l e R s m args below meth c H locs cells slots Q (F0 m (pc + 3) ls rest)) : W p l e R s m args below meth c H locs cells slots Q (F0 m pc ls (.int (nI b) :: .int (nI a) :: rest)) := lv_icmp_lt hx hb hdg ht (fun q => kt ((nI_ltI ha2 hb2).mp q)) (fun q => kf (Nat.le_of_not_lt (fun z => q ((nI_ltI ha2 hb2).mpr z))))
theorem pn_gt (hx : p.tables.exec = Jvm.exec) (hb : c.code = cc) {a b : Nat} (ha2 : a < 2 ^ 31) (hb2 : b < 2 ^ 31) {off : Int} {tgt : Nat} (hdg : decode cc pc = .ok (.if_icmp .gt off, 3)) (ht : (pc : Int) + off = (tgt : Int)) (kt : b < a → W p l e R s m args below meth c H locs cells slots Q (F0 m tgt ls rest)) (kf : a ≤ b → W p l e R s m args below meth c H locs cells slots Q (F0 m (pc + 3) ls rest)) : W p l e R s m args below meth c H locs cells slots Q (F0 m pc ls (.int (nI b) :: .int (nI a) :: rest)) := lv_icmp_gt hx hb hdg ht (fun q => kt ((nI_ltI hb2 ha2).mp q)) (fun q => kf (Nat.le_of_not_lt (fun z => q ((nI_ltI hb2 ha2).mpr z))))
theorem pn_eq (hx : p.tables.exec = Jvm.exec) (hb : c.code = cc) {a b : Nat} (ha2 : a < 2 ^ 31) (hb2 : b < 2 ^ 31) {off : Int} {tgt : Nat} (hdg : decode cc pc = .ok (.if_icmp .eq off, 3)) (ht : (pc : Int) + off = (tgt : Int)) (kt : a = b → W p l e R s m args below meth c H locs cells slots Q (F0 m tgt ls rest)) (kf : a ≠ b → W p l e R s m args below meth c H locs cells slots Q (F0 m (pc + 3) ls rest)) : W p l e R s m args below meth c H locs cells slots Q (F0 m pc ls (.int (nI b) :: .int (nI a) :: rest)) := lv_icmp_eq hx hb hdg ht (fun q => kt ((nI_eq ha2 hb2).mp q)) (fun q => kf (fun z => q ((nI_eq ha2 hb2).mpr z)))
theorem pn_ne (hx : p.tables.exec = Jvm.exec) (hb : c.code = cc) {a b : Nat} (ha2 : a < 2 ^ 31) (hb2 : b < 2 ^ 31) {off : Int} {tgt : Nat} (hdg : decode cc pc = .ok (.if_icmp .ne off, 3)) (ht : (pc : Int) + off = (tgt : Int)) (kt : a ≠ b → W p l e R s m args below meth c H locs cells slots Q (F0 m tgt ls rest)) (kf : a = b → W p l e R s m args below meth c H locs cells slots Q (F0 m (pc + 3) ls rest)) : W p l e R s m args below meth c H locs cells slots Q (F0 m pc ls (.int (nI b) :: .int (nI a) :: rest)) := lv_icmp_ne hx hb hdg ht (fun q => kt (fun z => q ((nI_eq ha2 hb2).mpr z))) (fun q => kf ((nI_eq ha2 hb2).mp q))
end PRN
section PDR
variable {p : Program} {l : Launch} {e : Env} {R : Room} {s : State} {m : MethodId} {args : Array Value} {below : List Frame} {meth : Method} {c : Code} {H : Heap} {locs : List Loc} {cells slots : Nat} {Q : State → Prop}
variable {cc : ByteArray} {pc : Nat} {ls : Array Slot} {rest : List Value} {dC : Nat → ClassId} {dI : Nat → Nat → Nat} {A : Nat → Prop} {nL : Nat}
variable {h : Nat} {ad : Nat → Nat} {cs : Nat → ClassId} {nn rk : Int32} {co : Nat → Int32} {u v : Nat → Int64} {ro cl : Nat → Int32} {wy : Nat → Int64} {be dn : Nat → Int32}
theorem pd_g_co (S : CallFix p m c cc nL s args lw_all RX0) (hK : va_K (dC, dI) vwCl (pdT cs) s) (hP : va_P (dC, dI) vwCl (pdW h ad cs nn rk co u v ro cl wy be dn) H) (hdg : decode cc pc = .ok (.getfield 11, 3)) (kk : W p l e R s m args below meth c H locs cells slots Q (F0 m (pc + 3) ls (.ref (ad 0) :: rest))) : W p l e R s m args below meth c H locs cells slots Q (F0 m pc ls (.ref h :: rest)) := va_get (D := (dC, dI)) (ci := 0) (v := .ref (ad 0)) (C := RX0) (T := TX0) (N := 10) S.1 S.2.1 S.2.2.2.2 in_X0 S.2.2.2.1 hK hP 0 rfl rfl 0 (by decide) (S.2.2.2.2 _ q18) (fun _ h9 => h9) rfl hdg kk
theorem pd_g_nn (S : CallFix p m c cc nL s args lw_all RX0) (hK : va_K (dC, dI) vwCl (pdT cs) s) (hP : va_P (dC, dI) vwCl (pdW h ad cs nn rk co u v ro cl wy be dn) H) (hdg : decode cc pc = .ok (.getfield 15, 3)) (kk : W p l e R s m args below meth c H locs cells slots Q (F0 m (pc + 3) ls (.int nn :: rest))) : W p l e R s m args below meth c H locs cells slots Q (F0 m pc ls (.ref h :: rest)) := va_get (D := (dC, dI)) (ci := 0) (v := .int nn) (C := RX0) (T := TX0) (N := 10) S.1 S.2.1 S.2.2.2.2 in_X0 S.2.2.2.1 hK hP 0 rfl rfl 1 (by decide) (S.2.2.2.2 _ q19) (fun _ h9 => h9) rfl hdg kk
theorem pd_g_rk (S : CallFix p m c cc nL s args lw_all RX0) (hK : va_K (dC, dI) vwCl (pdT cs) s) (hP : va_P (dC, dI) vwCl (pdW h ad cs nn rk co u v ro cl wy be dn) H) (hdg : decode cc pc = .ok (.getfield 48, 3)) (kk : W p l e R s m args below meth c H locs cells slots Q (F0 m (pc + 3) ls (.int rk :: rest))) : W p l e R s m args below meth c H locs cells slots Q (F0 m pc ls (.ref h :: rest)) := va_get (D := (dC, dI)) (ci := 0) (v := .int rk) (C := RX0) (T := TX0) (N := 10) S.1 S.2.1 S.2.2.2.2 in_X0 S.2.2.2.1 hK hP 0 rfl rfl 2 (by decide) (S.2.2.2.2 _ q20) (fun _ h9 => h9) rfl hdg kk
theorem pd_g_u (S : CallFix p m c cc nL s args lw_all RX0) (hK : va_K (dC, dI) vwCl (pdT cs) s) (hP : va_P (dC, dI) vwCl (pdW h ad cs nn rk co u v ro cl wy be dn) H) (hdg : decode cc pc = .ok (.getfield 19, 3)) (kk : W p l e R s m args below meth c H locs cells slots Q (F0 m (pc + 3) ls (.ref (ad 1) :: rest))) : W p l e R s m args below meth c H locs cells slots Q (F0 m pc ls (.ref h :: rest)) := va_get (D := (dC, dI)) (ci := 0) (v := .ref (ad 1)) (C := RX0) (T := TX0) (N := 10) S.1 S.2.1 S.2.2.2.2 in_X0 S.2.2.2.1 hK hP 0 rfl rfl 3 (by decide) (S.2.2.2.2 _ q21) (fun _ h9 => h9) rfl hdg kk
theorem pd_g_v (S : CallFix p m c cc nL s args lw_all RX0) (hK : va_K (dC, dI) vwCl (pdT cs) s) (hP : va_P (dC, dI) vwCl (pdW h ad cs nn rk co u v ro cl wy be dn) H) (hdg : decode cc pc = .ok (.getfield 23, 3)) (kk : W p l e R s m args below meth c H locs cells slots Q (F0 m (pc + 3) ls (.ref (ad 2) :: rest))) : W p l e R s m args below meth c H locs cells slots Q (F0 m pc ls (.ref h :: rest)) := va_get (D := (dC, dI)) (ci := 0) (v := .ref (ad 2)) (C := RX0) (T := TX0) (N := 10) S.1 S.2.1 S.2.2.2.2 in_X0 S.2.2.2.1 hK hP 0 rfl rfl 4 (by decide) (S.2.2.2.2 _ q22) (fun _ h9 => h9) rfl hdg kk
theorem pd_g_ro (S : CallFix p m c cc nL s args lw_all RX0) (hK : va_K (dC, dI) vwCl (pdT cs) s) (hP : va_P (dC, dI) vwCl (pdW h ad cs nn rk co u v ro cl wy be dn) H) (hdg : decode cc pc = .ok (.getfield 26, 3)) (kk : W p l e R s m args below meth c H locs cells slots Q (F0 m (pc + 3) ls (.ref (ad 3) :: rest))) : W p l e R s m args below meth c H locs cells slots Q (F0 m pc ls (.ref h :: rest)) := va_get (D := (dC, dI)) (ci := 0) (v := .ref (ad 3)) (C := RX0) (T := TX0) (N := 10) S.1 S.2.1 S.2.2.2.2 in_X0 S.2.2.2.1 hK hP 0 rfl rfl 5 (by decide) (S.2.2.2.2 _ q23) (fun _ h9 => h9) rfl hdg kk
theorem pd_g_cl (S : CallFix p m c cc nL s args lw_all RX0) (hK : va_K (dC, dI) vwCl (pdT cs) s) (hP : va_P (dC, dI) vwCl (pdW h ad cs nn rk co u v ro cl wy be dn) H) (hdg : decode cc pc = .ok (.getfield 29, 3)) (kk : W p l e R s m args below meth c H locs cells slots Q (F0 m (pc + 3) ls (.ref (ad 4) :: rest))) : W p l e R s m args below meth c H locs cells slots Q (F0 m pc ls (.ref h :: rest)) := va_get (D := (dC, dI)) (ci := 0) (v := .ref (ad 4)) (C := RX0) (T := TX0) (N := 10) S.1 S.2.1 S.2.2.2.2 in_X0 S.2.2.2.1 hK hP 0 rfl rfl 6 (by decide) (S.2.2.2.2 _ q24) (fun _ h9 => h9) rfl hdg kk
theorem pd_g_wy (S : CallFix p m c cc nL s args lw_all RX0) (hK : va_K (dC, dI) vwCl (pdT cs) s) (hP : va_P (dC, dI) vwCl (pdW h ad cs nn rk co u v ro cl wy be dn) H) (hdg : decode cc pc = .ok (.getfield 32, 3)) (kk : W p l e R s m args below meth c H locs cells slots Q (F0 m (pc + 3) ls (.ref (ad 5) :: rest))) : W p l e R s m args below meth c H locs cells slots Q (F0 m pc ls (.ref h :: rest)) := va_get (D := (dC, dI)) (ci := 0) (v := .ref (ad 5)) (C := RX0) (T := TX0) (N := 10) S.1 S.2.1 S.2.2.2.2 in_X0 S.2.2.2.1 hK hP 0 rfl rfl 7 (by decide) (S.2.2.2.2 _ q25) (fun _ h9 => h9) rfl hdg kk
theorem pd_g_be (S : CallFix p m c cc nL s args lw_all RX0) (hK : va_K (dC, dI) vwCl (pdT cs) s) (hP : va_P (dC, dI) vwCl (pdW h ad cs nn rk co u v ro cl wy be dn) H) (hdg : decode cc pc = .ok (.getfield 35, 3)) (kk : W p l e R s m args below meth c H locs cells slots Q (F0 m (pc + 3) ls (.ref (ad 6) :: rest))) : W p l e R s m args below meth c H locs cells slots Q (F0 m pc ls (.ref h :: rest)) := va_get (D := (dC, dI)) (ci := 0) (v := .ref (ad 6)) (C := RX0) (T := TX0) (N := 10) S.1 S.2.1 S.2.2.2.2 in_X0 S.2.2.2.1 hK hP 0 rfl rfl 8 (by decide) (S.2.2.2.2 _ q26) (fun _ h9 => h9) rfl hdg kk
theorem pd_g_dn (S : CallFix p m c cc nL s args lw_all RX0) (hK : va_K (dC, dI) vwCl (pdT cs) s) (hP : va_P (dC, dI) vwCl (pdW h ad cs nn rk co u v ro cl wy be dn) H) (hdg : decode cc pc = .ok (.getfield 38, 3)) (kk : W p l e R s m args below meth c H locs cells slots Q (F0 m (pc + 3) ls (.ref (ad 7) :: rest))) : W p l e R s m args below meth c H locs cells slots Q (F0 m pc ls (.ref h :: rest)) := va_get (D := (dC, dI)) (ci := 0) (v := .ref (ad 7)) (C := RX0) (T := TX0) (N := 10) S.1 S.2.1 S.2.2.2.2 in_X0 S.2.2.2.1 hK hP 0 rfl rfl 9 (by decide) (S.2.2.2.2 _ q27) (fun _ h9 => h9) rfl hdg kk
theorem pd_p_nn (S : CallFix p m c cc nL s args lw_all RX0) (hK : va_K (dC, dI) vwCl (pdT cs) s) (hP : va_P (dC, dI) vwCl (pdW h ad cs nn rk co u v ro cl wy be dn) H) (hD : va_D A (pdW h ad cs nn rk co u v ro cl wy be dn)) (hS : va_S A s.heap H locs) {x : Int32} (hn : narrow .int (.int x) = .int x) (hfit : fits .int (.int x) = true) (hdg : decode cc pc = .ok (.putfield 15, 3)) (kk : ∀ (H1 : Heap) (locs1 : List Loc), va_P (dC, dI) vwCl (pdW h ad cs x rk co u v ro cl wy be dn) H1 → va_D A (pdW h ad cs x rk co u v ro cl wy be dn) → va_S A s.heap H1 locs1 → W p l e R s m args below meth c H1 locs1 cells slots Q (F0 m (pc + 3) ls rest)) : W p l e R s m args below meth c H locs cells slots Q (F0 m pc ls (.int x :: .ref h :: rest)) := va_put (D := (dC, dI)) (ci := 0) (v := .int x) (ty := .int) (C := RX0) (T := TX0) (N := 10) S.1 S.2.1 S.2.2.2.2 in_X0 tyX0 tyX0_ok nmX0 S.2.2.2.1 hK hP hD hS 0 rfl rfl 1 (by decide) (S.2.2.2.2 _ q19) (fun _ h9 => h9) rfl (by decide +kernel) hn hfit (Nat.le_of_ble_eq_true rfl) hdg kk
theorem pd_p_rk (S : CallFix p m c cc nL s args lw_all RX0) (hK : va_K (dC, dI) vwCl (pdT cs) s) (hP : va_P (dC, dI) vwCl (pdW h ad cs nn rk co u v ro cl wy be dn) H) (hD : va_D A (pdW h ad cs nn rk co u v ro cl wy be dn)) (hS : va_S A s.heap H locs) {x : Int32} (hn : narrow .boolean (.int x) = .int x) (hfit : fits .boolean (.int x) = true) (hdg : decode cc pc = .ok (.putfield 48, 3)) (kk : ∀ (H1 : Heap) (locs1 : List Loc), va_P (dC, dI) vwCl (pdW h ad cs nn x co u v ro cl wy be dn) H1 → va_D A (pdW h ad cs nn x co u v ro cl wy be dn) → va_S A s.heap H1 locs1 → W p l e R s m args below meth c H1 locs1 cells slots Q (F0 m (pc + 3) ls rest)) : W p l e R s m args below meth c H locs cells slots Q (F0 m pc ls (.int x :: .ref h :: rest)) := va_put (D := (dC, dI)) (ci := 0) (v := .int x) (ty := .boolean) (C := RX0) (T := TX0) (N := 10) S.1 S.2.1 S.2.2.2.2 in_X0 tyX0 tyX0_ok nmX0 S.2.2.2.1 hK hP hD hS 0 rfl rfl 2 (by decide) (S.2.2.2.2 _ q20) (fun _ h9 => h9) rfl (by decide +kernel) hn hfit (Nat.le_of_ble_eq_true rfl) hdg kk
theorem pd_ld_co (S : CallFix p m c cc nL s args lw_all RX0) (hK : va_K (dC, dI) vwCl (pdT cs) s) (hP : va_P (dC, dI) vwCl (pdW h ad cs nn rk co u v ro cl wy be dn) H) {i : Nat} (hi : i < 64) (hdg : decode cc pc = .ok (.iaload, 1)) (kk : W p l e R s m args below meth c H locs cells slots Q (F0 m (pc + 1) ls (.int (co i) :: rest))) : W p l e R s m args below meth c H locs cells slots Q (F0 m pc ls (.int (nI i) :: .ref (ad 0) :: rest)) := by
  refine va_iald S.1 S.2.1 hK hP 1 0 rfl rfl (vp_in_nI hi (by decide)) hdg ?_
  rw [nI_clamp (by omega)]
  exact kk
theorem pd_st_co (S : CallFix p m c cc nL s args lw_all RX0) (hK : va_K (dC, dI) vwCl (pdT cs) s) (hP : va_P (dC, dI) vwCl (pdW h ad cs nn rk co u v ro cl wy be dn) H) (hD : va_D A (pdW h ad cs nn rk co u v ro cl wy be dn)) (hS : va_S A s.heap H locs) {i : Nat} {x : Int32} (hi : i < 64) (hdg : decode cc pc = .ok (.iastore, 1)) (kk : ∀ (H1 : Heap) (locs1 : List Loc), va_P (dC, dI) vwCl (pdW h ad cs nn rk (upd co i x) u v ro cl wy be dn) H1 → va_D A (pdW h ad cs nn rk (upd co i x) u v ro cl wy be dn) → va_S A s.heap H1 locs1 → W p l e R s m args below meth c H1 locs1 cells slots Q (F0 m (pc + 1) ls rest)) : W p l e R s m args below meth c H locs cells slots Q (F0 m pc ls (.int x :: .int (nI i) :: .ref (ad 0) :: rest)) := by
  refine va_iast S.1 S.2.1 hK hP hD hS 1 0 rfl rfl (vp_in_nI hi (by decide)) hdg (fun H1 locs1 hP1 hD1 hS1 => ?_)
  rw [nI_clamp (by omega)] at hP1 hD1
  exact kk H1 locs1 hP1 hD1 hS1
theorem pd_ld_u (S : CallFix p m c cc nL s args lw_all RX0) (hK : va_K (dC, dI) vwCl (pdT cs) s) (hP : va_P (dC, dI) vwCl (pdW h ad cs nn rk co u v ro cl wy be dn) H) {i : Nat} (hi : i < 8) (hdg : decode cc pc = .ok (.laload, 1)) (kk : W p l e R s m args below meth c H locs cells slots Q (F0 m (pc + 1) ls (.long (u i) :: rest))) : W p l e R s m args below meth c H locs cells slots Q (F0 m pc ls (.int (nI i) :: .ref (ad 1) :: rest)) := by
  refine va_lald S.1 S.2.1 hK hP 2 1 rfl rfl (vp_in_nI hi (by decide)) hdg ?_
  rw [nI_clamp (by omega)]
  exact kk
theorem pd_st_u (S : CallFix p m c cc nL s args lw_all RX0) (hK : va_K (dC, dI) vwCl (pdT cs) s) (hP : va_P (dC, dI) vwCl (pdW h ad cs nn rk co u v ro cl wy be dn) H) (hD : va_D A (pdW h ad cs nn rk co u v ro cl wy be dn)) (hS : va_S A s.heap H locs) {i : Nat} {x : Int64} (hi : i < 8) (hdg : decode cc pc = .ok (.lastore, 1)) (kk : ∀ (H1 : Heap) (locs1 : List Loc), va_P (dC, dI) vwCl (pdW h ad cs nn rk co (vp_updL u i x) v ro cl wy be dn) H1 → va_D A (pdW h ad cs nn rk co (vp_updL u i x) v ro cl wy be dn) → va_S A s.heap H1 locs1 → W p l e R s m args below meth c H1 locs1 cells slots Q (F0 m (pc + 1) ls rest)) : W p l e R s m args below meth c H locs cells slots Q (F0 m pc ls (.long x :: .int (nI i) :: .ref (ad 1) :: rest)) := by
  refine va_last S.1 S.2.1 hK hP hD hS 2 1 rfl rfl (vp_in_nI hi (by decide)) hdg (fun H1 locs1 hP1 hD1 hS1 => ?_)
  rw [nI_clamp (by omega)] at hP1 hD1
  exact kk H1 locs1 hP1 hD1 hS1
theorem pd_ld_v (S : CallFix p m c cc nL s args lw_all RX0) (hK : va_K (dC, dI) vwCl (pdT cs) s) (hP : va_P (dC, dI) vwCl (pdW h ad cs nn rk co u v ro cl wy be dn) H) {i : Nat} (hi : i < 9) (hdg : decode cc pc = .ok (.laload, 1)) (kk : W p l e R s m args below meth c H locs cells slots Q (F0 m (pc + 1) ls (.long (v i) :: rest))) : W p l e R s m args below meth c H locs cells slots Q (F0 m pc ls (.int (nI i) :: .ref (ad 2) :: rest)) := by
  refine va_lald S.1 S.2.1 hK hP 3 2 rfl rfl (vp_in_nI hi (by decide)) hdg ?_
  rw [nI_clamp (by omega)]
  exact kk
theorem pd_st_v (S : CallFix p m c cc nL s args lw_all RX0) (hK : va_K (dC, dI) vwCl (pdT cs) s) (hP : va_P (dC, dI) vwCl (pdW h ad cs nn rk co u v ro cl wy be dn) H) (hD : va_D A (pdW h ad cs nn rk co u v ro cl wy be dn)) (hS : va_S A s.heap H locs) {i : Nat} {x : Int64} (hi : i < 9) (hdg : decode cc pc = .ok (.lastore, 1)) (kk : ∀ (H1 : Heap) (locs1 : List Loc), va_P (dC, dI) vwCl (pdW h ad cs nn rk co u (vp_updL v i x) ro cl wy be dn) H1 → va_D A (pdW h ad cs nn rk co u (vp_updL v i x) ro cl wy be dn) → va_S A s.heap H1 locs1 → W p l e R s m args below meth c H1 locs1 cells slots Q (F0 m (pc + 1) ls rest)) : W p l e R s m args below meth c H locs cells slots Q (F0 m pc ls (.long x :: .int (nI i) :: .ref (ad 2) :: rest)) := by
  refine va_last S.1 S.2.1 hK hP hD hS 3 2 rfl rfl (vp_in_nI hi (by decide)) hdg (fun H1 locs1 hP1 hD1 hS1 => ?_)
  rw [nI_clamp (by omega)] at hP1 hD1
  exact kk H1 locs1 hP1 hD1 hS1
theorem pd_ld_ro (S : CallFix p m c cc nL s args lw_all RX0) (hK : va_K (dC, dI) vwCl (pdT cs) s) (hP : va_P (dC, dI) vwCl (pdW h ad cs nn rk co u v ro cl wy be dn) H) {i : Nat} (hi : i < 9) (hdg : decode cc pc = .ok (.iaload, 1)) (kk : W p l e R s m args below meth c H locs cells slots Q (F0 m (pc + 1) ls (.int (ro i) :: rest))) : W p l e R s m args below meth c H locs cells slots Q (F0 m pc ls (.int (nI i) :: .ref (ad 3) :: rest)) := by
  refine va_iald S.1 S.2.1 hK hP 4 3 rfl rfl (vp_in_nI hi (by decide)) hdg ?_
  rw [nI_clamp (by omega)]
  exact kk
theorem pd_st_ro (S : CallFix p m c cc nL s args lw_all RX0) (hK : va_K (dC, dI) vwCl (pdT cs) s) (hP : va_P (dC, dI) vwCl (pdW h ad cs nn rk co u v ro cl wy be dn) H) (hD : va_D A (pdW h ad cs nn rk co u v ro cl wy be dn)) (hS : va_S A s.heap H locs) {i : Nat} {x : Int32} (hi : i < 9) (hdg : decode cc pc = .ok (.iastore, 1)) (kk : ∀ (H1 : Heap) (locs1 : List Loc), va_P (dC, dI) vwCl (pdW h ad cs nn rk co u v (upd ro i x) cl wy be dn) H1 → va_D A (pdW h ad cs nn rk co u v (upd ro i x) cl wy be dn) → va_S A s.heap H1 locs1 → W p l e R s m args below meth c H1 locs1 cells slots Q (F0 m (pc + 1) ls rest)) : W p l e R s m args below meth c H locs cells slots Q (F0 m pc ls (.int x :: .int (nI i) :: .ref (ad 3) :: rest)) := by
  refine va_iast S.1 S.2.1 hK hP hD hS 4 3 rfl rfl (vp_in_nI hi (by decide)) hdg (fun H1 locs1 hP1 hD1 hS1 => ?_)
  rw [nI_clamp (by omega)] at hP1 hD1
  exact kk H1 locs1 hP1 hD1 hS1
theorem pd_ld_cl (S : CallFix p m c cc nL s args lw_all RX0) (hK : va_K (dC, dI) vwCl (pdT cs) s) (hP : va_P (dC, dI) vwCl (pdW h ad cs nn rk co u v ro cl wy be dn) H) {i : Nat} (hi : i < 8) (hdg : decode cc pc = .ok (.iaload, 1)) (kk : W p l e R s m args below meth c H locs cells slots Q (F0 m (pc + 1) ls (.int (cl i) :: rest))) : W p l e R s m args below meth c H locs cells slots Q (F0 m pc ls (.int (nI i) :: .ref (ad 4) :: rest)) := by
  refine va_iald S.1 S.2.1 hK hP 5 4 rfl rfl (vp_in_nI hi (by decide)) hdg ?_
  rw [nI_clamp (by omega)]
  exact kk
theorem pd_st_cl (S : CallFix p m c cc nL s args lw_all RX0) (hK : va_K (dC, dI) vwCl (pdT cs) s) (hP : va_P (dC, dI) vwCl (pdW h ad cs nn rk co u v ro cl wy be dn) H) (hD : va_D A (pdW h ad cs nn rk co u v ro cl wy be dn)) (hS : va_S A s.heap H locs) {i : Nat} {x : Int32} (hi : i < 8) (hdg : decode cc pc = .ok (.iastore, 1)) (kk : ∀ (H1 : Heap) (locs1 : List Loc), va_P (dC, dI) vwCl (pdW h ad cs nn rk co u v ro (upd cl i x) wy be dn) H1 → va_D A (pdW h ad cs nn rk co u v ro (upd cl i x) wy be dn) → va_S A s.heap H1 locs1 → W p l e R s m args below meth c H1 locs1 cells slots Q (F0 m (pc + 1) ls rest)) : W p l e R s m args below meth c H locs cells slots Q (F0 m pc ls (.int x :: .int (nI i) :: .ref (ad 4) :: rest)) := by
  refine va_iast S.1 S.2.1 hK hP hD hS 5 4 rfl rfl (vp_in_nI hi (by decide)) hdg (fun H1 locs1 hP1 hD1 hS1 => ?_)
  rw [nI_clamp (by omega)] at hP1 hD1
  exact kk H1 locs1 hP1 hD1 hS1
theorem pd_ld_wy (S : CallFix p m c cc nL s args lw_all RX0) (hK : va_K (dC, dI) vwCl (pdT cs) s) (hP : va_P (dC, dI) vwCl (pdW h ad cs nn rk co u v ro cl wy be dn) H) {i : Nat} (hi : i < 8) (hdg : decode cc pc = .ok (.laload, 1)) (kk : W p l e R s m args below meth c H locs cells slots Q (F0 m (pc + 1) ls (.long (wy i) :: rest))) : W p l e R s m args below meth c H locs cells slots Q (F0 m pc ls (.int (nI i) :: .ref (ad 5) :: rest)) := by
  refine va_lald S.1 S.2.1 hK hP 6 5 rfl rfl (vp_in_nI hi (by decide)) hdg ?_
  rw [nI_clamp (by omega)]
  exact kk
theorem pd_st_wy (S : CallFix p m c cc nL s args lw_all RX0) (hK : va_K (dC, dI) vwCl (pdT cs) s) (hP : va_P (dC, dI) vwCl (pdW h ad cs nn rk co u v ro cl wy be dn) H) (hD : va_D A (pdW h ad cs nn rk co u v ro cl wy be dn)) (hS : va_S A s.heap H locs) {i : Nat} {x : Int64} (hi : i < 8) (hdg : decode cc pc = .ok (.lastore, 1)) (kk : ∀ (H1 : Heap) (locs1 : List Loc), va_P (dC, dI) vwCl (pdW h ad cs nn rk co u v ro cl (vp_updL wy i x) be dn) H1 → va_D A (pdW h ad cs nn rk co u v ro cl (vp_updL wy i x) be dn) → va_S A s.heap H1 locs1 → W p l e R s m args below meth c H1 locs1 cells slots Q (F0 m (pc + 1) ls rest)) : W p l e R s m args below meth c H locs cells slots Q (F0 m pc ls (.long x :: .int (nI i) :: .ref (ad 5) :: rest)) := by
  refine va_last S.1 S.2.1 hK hP hD hS 6 5 rfl rfl (vp_in_nI hi (by decide)) hdg (fun H1 locs1 hP1 hD1 hS1 => ?_)
  rw [nI_clamp (by omega)] at hP1 hD1
  exact kk H1 locs1 hP1 hD1 hS1
theorem pd_ld_be (S : CallFix p m c cc nL s args lw_all RX0) (hK : va_K (dC, dI) vwCl (pdT cs) s) (hP : va_P (dC, dI) vwCl (pdW h ad cs nn rk co u v ro cl wy be dn) H) {i : Nat} (hi : i < 8) (hdg : decode cc pc = .ok (.iaload, 1)) (kk : W p l e R s m args below meth c H locs cells slots Q (F0 m (pc + 1) ls (.int (be i) :: rest))) : W p l e R s m args below meth c H locs cells slots Q (F0 m pc ls (.int (nI i) :: .ref (ad 6) :: rest)) := by
  refine va_iald S.1 S.2.1 hK hP 7 6 rfl rfl (vp_in_nI hi (by decide)) hdg ?_
  rw [nI_clamp (by omega)]
  exact kk
theorem pd_st_be (S : CallFix p m c cc nL s args lw_all RX0) (hK : va_K (dC, dI) vwCl (pdT cs) s) (hP : va_P (dC, dI) vwCl (pdW h ad cs nn rk co u v ro cl wy be dn) H) (hD : va_D A (pdW h ad cs nn rk co u v ro cl wy be dn)) (hS : va_S A s.heap H locs) {i : Nat} {x : Int32} (hi : i < 8) (hdg : decode cc pc = .ok (.iastore, 1)) (kk : ∀ (H1 : Heap) (locs1 : List Loc), va_P (dC, dI) vwCl (pdW h ad cs nn rk co u v ro cl wy (upd be i x) dn) H1 → va_D A (pdW h ad cs nn rk co u v ro cl wy (upd be i x) dn) → va_S A s.heap H1 locs1 → W p l e R s m args below meth c H1 locs1 cells slots Q (F0 m (pc + 1) ls rest)) : W p l e R s m args below meth c H locs cells slots Q (F0 m pc ls (.int x :: .int (nI i) :: .ref (ad 6) :: rest)) := by
  refine va_iast S.1 S.2.1 hK hP hD hS 7 6 rfl rfl (vp_in_nI hi (by decide)) hdg (fun H1 locs1 hP1 hD1 hS1 => ?_)
  rw [nI_clamp (by omega)] at hP1 hD1
  exact kk H1 locs1 hP1 hD1 hS1
theorem pd_ld_dn (S : CallFix p m c cc nL s args lw_all RX0) (hK : va_K (dC, dI) vwCl (pdT cs) s) (hP : va_P (dC, dI) vwCl (pdW h ad cs nn rk co u v ro cl wy be dn) H) {i : Nat} (hi : i < 9) (hdg : decode cc pc = .ok (.baload, 1)) (kk : W p l e R s m args below meth c H locs cells slots Q (F0 m (pc + 1) ls (.int (dn i) :: rest))) : W p l e R s m args below meth c H locs cells slots Q (F0 m pc ls (.int (nI i) :: .ref (ad 7) :: rest)) := by
  refine va_zald S.1 S.2.1 hK hP 8 7 rfl rfl (vp_in_nI hi (by decide)) hdg ?_
  rw [nI_clamp (by omega)]
  exact kk
theorem pd_st_dn (S : CallFix p m c cc nL s args lw_all RX0) (hK : va_K (dC, dI) vwCl (pdT cs) s) (hP : va_P (dC, dI) vwCl (pdW h ad cs nn rk co u v ro cl wy be dn) H) (hD : va_D A (pdW h ad cs nn rk co u v ro cl wy be dn)) (hS : va_S A s.heap H locs) {i : Nat} {x : Int32} (hi : i < 9) (hx0 : vp_nar .boolean x = x) (hdg : decode cc pc = .ok (.bastore, 1)) (kk : ∀ (H1 : Heap) (locs1 : List Loc), va_P (dC, dI) vwCl (pdW h ad cs nn rk co u v ro cl wy be (upd dn i x)) H1 → va_D A (pdW h ad cs nn rk co u v ro cl wy be (upd dn i x)) → va_S A s.heap H1 locs1 → W p l e R s m args below meth c H1 locs1 cells slots Q (F0 m (pc + 1) ls rest)) : W p l e R s m args below meth c H locs cells slots Q (F0 m pc ls (.int x :: .int (nI i) :: .ref (ad 7) :: rest)) := by
  refine va_zast S.1 S.2.1 hK hP hD hS 8 7 rfl rfl (vp_in_nI hi (by decide)) hdg (fun H1 locs1 hP1 hD1 hS1 => ?_)
  rw [nI_clamp (by omega), hx0] at hP1 hD1
  exact kk H1 locs1 hP1 hD1 hS1
end PDR
section PMR
variable {p : Program} {l : Launch} {e : Env} {R : Room} {s : State} {m : MethodId} {args : Array Value} {below : List Frame} {meth : Method} {c : Code} {H : Heap} {locs : List Loc} {cells slots : Nat} {Q : State → Prop}
variable {cc : ByteArray} {pc : Nat} {ls : Array Slot} {rest : List Value} {dC : Nat → ClassId} {dI : Nat → Nat → Nat} {A : Nat → Prop} {nL : Nat}
variable {h : Nat} {ad : Nat → Nat} {cs : Nat → ClassId} {nn mk : Int32} {co : Nat → Int32} {bs : Nat → Int64} {gv : Nat → Int32}
theorem pm_g_co (S : CallFix p m c cc nL s args lw_all RX1) (hK : va_K (dC, dI) vwCl (pmT cs) s) (hP : va_P (dC, dI) vwCl (pmW h ad cs nn mk co bs gv) H) (hdg : decode cc pc = .ok (.getfield 7, 3)) (kk : W p l e R s m args below meth c H locs cells slots Q (F0 m (pc + 3) ls (.ref (ad 0) :: rest))) : W p l e R s m args below meth c H locs cells slots Q (F0 m pc ls (.ref h :: rest)) := va_get (D := (dC, dI)) (ci := 1) (v := .ref (ad 0)) (C := RX1) (T := TX1) (N := 5) S.1 S.2.1 S.2.2.2.2 in_X1 S.2.2.2.1 hK hP 0 rfl rfl 0 (by decide) (S.2.2.2.2 _ q106) (fun _ h9 => h9) rfl hdg kk
theorem pm_g_nn (S : CallFix p m c cc nL s args lw_all RX1) (hK : va_K (dC, dI) vwCl (pmT cs) s) (hP : va_P (dC, dI) vwCl (pmW h ad cs nn mk co bs gv) H) (hdg : decode cc pc = .ok (.getfield 13, 3)) (kk : W p l e R s m args below meth c H locs cells slots Q (F0 m (pc + 3) ls (.int nn :: rest))) : W p l e R s m args below meth c H locs cells slots Q (F0 m pc ls (.ref h :: rest)) := va_get (D := (dC, dI)) (ci := 1) (v := .int nn) (C := RX1) (T := TX1) (N := 5) S.1 S.2.1 S.2.2.2.2 in_X1 S.2.2.2.1 hK hP 0 rfl rfl 1 (by decide) (S.2.2.2.2 _ q107) (fun _ h9 => h9) rfl hdg kk
theorem pm_g_bs (S : CallFix p m c cc nL s args lw_all RX1) (hK : va_K (dC, dI) vwCl (pmT cs) s) (hP : va_P (dC, dI) vwCl (pmW h ad cs nn mk co bs gv) H) (hdg : decode cc pc = .ok (.getfield 17, 3)) (kk : W p l e R s m args below meth c H locs cells slots Q (F0 m (pc + 3) ls (.ref (ad 1) :: rest))) : W p l e R s m args below meth c H locs cells slots Q (F0 m pc ls (.ref h :: rest)) := va_get (D := (dC, dI)) (ci := 1) (v := .ref (ad 1)) (C := RX1) (T := TX1) (N := 5) S.1 S.2.1 S.2.2.2.2 in_X1 S.2.2.2.1 hK hP 0 rfl rfl 2 (by decide) (S.2.2.2.2 _ q108) (fun _ h9 => h9) rfl hdg kk
theorem pm_g_gv (S : CallFix p m c cc nL s args lw_all RX1) (hK : va_K (dC, dI) vwCl (pmT cs) s) (hP : va_P (dC, dI) vwCl (pmW h ad cs nn mk co bs gv) H) (hdg : decode cc pc = .ok (.getfield 21, 3)) (kk : W p l e R s m args below meth c H locs cells slots Q (F0 m (pc + 3) ls (.ref (ad 2) :: rest))) : W p l e R s m args below meth c H locs cells slots Q (F0 m pc ls (.ref h :: rest)) := va_get (D := (dC, dI)) (ci := 1) (v := .ref (ad 2)) (C := RX1) (T := TX1) (N := 5) S.1 S.2.1 S.2.2.2.2 in_X1 S.2.2.2.1 hK hP 0 rfl rfl 3 (by decide) (S.2.2.2.2 _ q109) (fun _ h9 => h9) rfl hdg kk
theorem pm_g_mk (S : CallFix p m c cc nL s args lw_all RX1) (hK : va_K (dC, dI) vwCl (pmT cs) s) (hP : va_P (dC, dI) vwCl (pmW h ad cs nn mk co bs gv) H) (hdg : decode cc pc = .ok (.getfield 24, 3)) (kk : W p l e R s m args below meth c H locs cells slots Q (F0 m (pc + 3) ls (.int mk :: rest))) : W p l e R s m args below meth c H locs cells slots Q (F0 m pc ls (.ref h :: rest)) := va_get (D := (dC, dI)) (ci := 1) (v := .int mk) (C := RX1) (T := TX1) (N := 5) S.1 S.2.1 S.2.2.2.2 in_X1 S.2.2.2.1 hK hP 0 rfl rfl 4 (by decide) (S.2.2.2.2 _ q110) (fun _ h9 => h9) rfl hdg kk
theorem pm_p_nn (S : CallFix p m c cc nL s args lw_all RX1) (hK : va_K (dC, dI) vwCl (pmT cs) s) (hP : va_P (dC, dI) vwCl (pmW h ad cs nn mk co bs gv) H) (hD : va_D A (pmW h ad cs nn mk co bs gv)) (hS : va_S A s.heap H locs) {x : Int32} (hn : narrow .int (.int x) = .int x) (hfit : fits .int (.int x) = true) (hdg : decode cc pc = .ok (.putfield 13, 3)) (kk : ∀ (H1 : Heap) (locs1 : List Loc), va_P (dC, dI) vwCl (pmW h ad cs x mk co bs gv) H1 → va_D A (pmW h ad cs x mk co bs gv) → va_S A s.heap H1 locs1 → W p l e R s m args below meth c H1 locs1 cells slots Q (F0 m (pc + 3) ls rest)) : W p l e R s m args below meth c H locs cells slots Q (F0 m pc ls (.int x :: .ref h :: rest)) := va_put (D := (dC, dI)) (ci := 1) (v := .int x) (ty := .int) (C := RX1) (T := TX1) (N := 5) S.1 S.2.1 S.2.2.2.2 in_X1 tyX1 tyX1_ok nmX1 S.2.2.2.1 hK hP hD hS 0 rfl rfl 1 (by decide) (S.2.2.2.2 _ q107) (fun _ h9 => h9) rfl (by decide +kernel) hn hfit (Nat.le_of_ble_eq_true rfl) hdg kk
theorem pm_p_mk (S : CallFix p m c cc nL s args lw_all RX1) (hK : va_K (dC, dI) vwCl (pmT cs) s) (hP : va_P (dC, dI) vwCl (pmW h ad cs nn mk co bs gv) H) (hD : va_D A (pmW h ad cs nn mk co bs gv)) (hS : va_S A s.heap H locs) {x : Int32} (hn : narrow .boolean (.int x) = .int x) (hfit : fits .boolean (.int x) = true) (hdg : decode cc pc = .ok (.putfield 24, 3)) (kk : ∀ (H1 : Heap) (locs1 : List Loc), va_P (dC, dI) vwCl (pmW h ad cs nn x co bs gv) H1 → va_D A (pmW h ad cs nn x co bs gv) → va_S A s.heap H1 locs1 → W p l e R s m args below meth c H1 locs1 cells slots Q (F0 m (pc + 3) ls rest)) : W p l e R s m args below meth c H locs cells slots Q (F0 m pc ls (.int x :: .ref h :: rest)) := va_put (D := (dC, dI)) (ci := 1) (v := .int x) (ty := .boolean) (C := RX1) (T := TX1) (N := 5) S.1 S.2.1 S.2.2.2.2 in_X1 tyX1 tyX1_ok nmX1 S.2.2.2.1 hK hP hD hS 0 rfl rfl 4 (by decide) (S.2.2.2.2 _ q110) (fun _ h9 => h9) rfl (by decide +kernel) hn hfit (Nat.le_of_ble_eq_true rfl) hdg kk
theorem pm_ld_co (S : CallFix p m c cc nL s args lw_all RX1) (hK : va_K (dC, dI) vwCl (pmT cs) s) (hP : va_P (dC, dI) vwCl (pmW h ad cs nn mk co bs gv) H) {i : Nat} (hi : i < 64) (hdg : decode cc pc = .ok (.iaload, 1)) (kk : W p l e R s m args below meth c H locs cells slots Q (F0 m (pc + 1) ls (.int (co i) :: rest))) : W p l e R s m args below meth c H locs cells slots Q (F0 m pc ls (.int (nI i) :: .ref (ad 0) :: rest)) := by
  refine va_iald S.1 S.2.1 hK hP 1 0 rfl rfl (vp_in_nI hi (by decide)) hdg ?_
  rw [nI_clamp (by omega)]
  exact kk
theorem pm_st_co (S : CallFix p m c cc nL s args lw_all RX1) (hK : va_K (dC, dI) vwCl (pmT cs) s) (hP : va_P (dC, dI) vwCl (pmW h ad cs nn mk co bs gv) H) (hD : va_D A (pmW h ad cs nn mk co bs gv)) (hS : va_S A s.heap H locs) {i : Nat} {x : Int32} (hi : i < 64) (hdg : decode cc pc = .ok (.iastore, 1)) (kk : ∀ (H1 : Heap) (locs1 : List Loc), va_P (dC, dI) vwCl (pmW h ad cs nn mk (upd co i x) bs gv) H1 → va_D A (pmW h ad cs nn mk (upd co i x) bs gv) → va_S A s.heap H1 locs1 → W p l e R s m args below meth c H1 locs1 cells slots Q (F0 m (pc + 1) ls rest)) : W p l e R s m args below meth c H locs cells slots Q (F0 m pc ls (.int x :: .int (nI i) :: .ref (ad 0) :: rest)) := by
  refine va_iast S.1 S.2.1 hK hP hD hS 1 0 rfl rfl (vp_in_nI hi (by decide)) hdg (fun H1 locs1 hP1 hD1 hS1 => ?_)
  rw [nI_clamp (by omega)] at hP1 hD1
  exact kk H1 locs1 hP1 hD1 hS1
theorem pm_ld_bs (S : CallFix p m c cc nL s args lw_all RX1) (hK : va_K (dC, dI) vwCl (pmT cs) s) (hP : va_P (dC, dI) vwCl (pmW h ad cs nn mk co bs gv) H) {i : Nat} (hi : i < 256) (hdg : decode cc pc = .ok (.laload, 1)) (kk : W p l e R s m args below meth c H locs cells slots Q (F0 m (pc + 1) ls (.long (bs i) :: rest))) : W p l e R s m args below meth c H locs cells slots Q (F0 m pc ls (.int (nI i) :: .ref (ad 1) :: rest)) := by
  refine va_lald S.1 S.2.1 hK hP 2 1 rfl rfl (vp_in_nI hi (by decide)) hdg ?_
  rw [nI_clamp (by omega)]
  exact kk
theorem pm_st_bs (S : CallFix p m c cc nL s args lw_all RX1) (hK : va_K (dC, dI) vwCl (pmT cs) s) (hP : va_P (dC, dI) vwCl (pmW h ad cs nn mk co bs gv) H) (hD : va_D A (pmW h ad cs nn mk co bs gv)) (hS : va_S A s.heap H locs) {i : Nat} {x : Int64} (hi : i < 256) (hdg : decode cc pc = .ok (.lastore, 1)) (kk : ∀ (H1 : Heap) (locs1 : List Loc), va_P (dC, dI) vwCl (pmW h ad cs nn mk co (vp_updL bs i x) gv) H1 → va_D A (pmW h ad cs nn mk co (vp_updL bs i x) gv) → va_S A s.heap H1 locs1 → W p l e R s m args below meth c H1 locs1 cells slots Q (F0 m (pc + 1) ls rest)) : W p l e R s m args below meth c H locs cells slots Q (F0 m pc ls (.long x :: .int (nI i) :: .ref (ad 1) :: rest)) := by
  refine va_last S.1 S.2.1 hK hP hD hS 2 1 rfl rfl (vp_in_nI hi (by decide)) hdg (fun H1 locs1 hP1 hD1 hS1 => ?_)
  rw [nI_clamp (by omega)] at hP1 hD1
  exact kk H1 locs1 hP1 hD1 hS1
theorem pm_ld_gv (S : CallFix p m c cc nL s args lw_all RX1) (hK : va_K (dC, dI) vwCl (pmT cs) s) (hP : va_P (dC, dI) vwCl (pmW h ad cs nn mk co bs gv) H) {i : Nat} (hi : i < 8) (hdg : decode cc pc = .ok (.iaload, 1)) (kk : W p l e R s m args below meth c H locs cells slots Q (F0 m (pc + 1) ls (.int (gv i) :: rest))) : W p l e R s m args below meth c H locs cells slots Q (F0 m pc ls (.int (nI i) :: .ref (ad 2) :: rest)) := by
  refine va_iald S.1 S.2.1 hK hP 3 2 rfl rfl (vp_in_nI hi (by decide)) hdg ?_
  rw [nI_clamp (by omega)]
  exact kk
theorem pm_st_gv (S : CallFix p m c cc nL s args lw_all RX1) (hK : va_K (dC, dI) vwCl (pmT cs) s) (hP : va_P (dC, dI) vwCl (pmW h ad cs nn mk co bs gv) H) (hD : va_D A (pmW h ad cs nn mk co bs gv)) (hS : va_S A s.heap H locs) {i : Nat} {x : Int32} (hi : i < 8) (hdg : decode cc pc = .ok (.iastore, 1)) (kk : ∀ (H1 : Heap) (locs1 : List Loc), va_P (dC, dI) vwCl (pmW h ad cs nn mk co bs (upd gv i x)) H1 → va_D A (pmW h ad cs nn mk co bs (upd gv i x)) → va_S A s.heap H1 locs1 → W p l e R s m args below meth c H1 locs1 cells slots Q (F0 m (pc + 1) ls rest)) : W p l e R s m args below meth c H locs cells slots Q (F0 m pc ls (.int x :: .int (nI i) :: .ref (ad 2) :: rest)) := by
  refine va_iast S.1 S.2.1 hK hP hD hS 3 2 rfl rfl (vp_in_nI hi (by decide)) hdg (fun H1 locs1 hP1 hD1 hS1 => ?_)
  rw [nI_clamp (by omega)] at hP1 hD1
  exact kk H1 locs1 hP1 hD1 hS1
end PMR
section PCR
variable {p : Program} {l : Launch} {e : Env} {R : Room} {s : State} {m : MethodId} {args : Array Value} {below : List Frame} {meth : Method} {c : Code} {H : Heap} {locs : List Loc} {cells slots : Nat} {Q : State → Prop}
variable {cc : ByteArray} {pc : Nat} {ls : Array Slot} {rest : List Value} {dC : Nat → ClassId} {dI : Nat → Nat → Nat} {A : Nat → Prop} {nL : Nat}
variable {T : Type} {w wr : va_W} {w' : T → va_W} {tys : List (ClassId × FieldType)} {y : MethodName} {wsy : List Cond} {rm : Room} {bytes : ByteArray} {maxL n index h : Nat} {ret : Option FieldType} {own C : String} {Ts : List Cond} {As st0 : List Value}
theorem pd_cVv {post : T → Prop} (S : CallFix p m c cc nL s args Ts own) (hM : Met l y wsy rm (va_Pc (.ref h :: As) (pdPre dC dI tys H.size w)) (va_Qv post (fun u t => pdPost dC dI (va_A w H.size) (w' u) t) (va_A w H.size)) 0 0 (va_A w H.size)) (cw : CallW R s args own C index y bytes maxL ret wsy rm 0 0 n) (hf : cells ≤ R.cells ∧ slots ≤ R.slots) (hA : ∀ q : Nat, s.heap.size ≤ q → A q) (hK : va_K (dC, dI) vwCl tys s) (hP : va_P (dC, dI) vwCl w H) (hPr : va_P (dC, dI) vwCl wr H) (hD : va_D A (w ++ wr)) (hS : va_S A s.heap H locs) (hrc : ∃ cell : Cell, H[h]? = some cell ∧ cell.vm.isStatics = false ∧ s.vm.findClass C = some cell.cls) (hn : As.length = n) (hsz : ls.size = nL) (hst : st0 = As.reverse ++ .ref h :: rest) (hr : (rest.map fun v => v.category).sum ≤ 8) (hdg : decode cc pc = .ok (.invokevirtual index, 3))
    (kk : ∀ (u : T) (H1 : Heap) (locs1 : List Loc), post u → va_P (dC, dI) vwCl (w' u) H1 → va_P (dC, dI) vwCl wr H1 → va_D A (w' u ++ wr) → va_S A s.heap H1 locs1 → W p l e R s m args below meth c H1 locs1 cells slots Q (F0 m (pc + 3) ls rest)) : W p l e R s m args below meth c H locs cells slots Q (F0 m pc ls st0) := by
  have hDc := pd_left hD
  have hFc : ∀ q, va_A w H.size q → A q := by
    rintro q (⟨k, e2, hk⟩ | hq)
    · exact hDc.2 k _ hk
    · exact hA q (Nat.le_trans hS.1 hq)
  refine va_callv (va_runV (As := As) (rest := rest) S hM cw ⟨pd_blind, hrc, fun U hU hW => ⟨rfl, by rw [hU], by rw [hU]; exact hP, va_K.moved hW.alike hK, hDc.weaken (fun _ _ _ _ => trivial)⟩⟩ rfl hn hsz hst (lv_room hr) hdg hf) hS (fun q _ h => hFc q h) hFc (fun u t H1 locs1 ht hvm hw1 hB hz1 hk1 hS1 => ?_)
  obtain ⟨hP1, hD1⟩ := hB
  rw [ht] at hP1
  obtain ⟨hPr1, hD2⟩ := pd_frame hPr hD hFc hk1 hD1
  exact kk u H1 locs1 hw1 hP1 hPr1 hD2 hS1
theorem pd_cVi {post : Int32 → T → Prop} (S : CallFix p m c cc nL s args Ts own) (hM : Met l y wsy rm (va_Pc (.ref h :: As) (pdPre dC dI tys H.size w)) (va_Qi post (fun u t => pdPost dC dI (va_A w H.size) (w' u) t) (va_A w H.size)) 0 0 (va_A w H.size)) (cw : CallW R s args own C index y bytes maxL ret wsy rm 0 0 n) (hf : cells ≤ R.cells ∧ slots ≤ R.slots) (hA : ∀ q : Nat, s.heap.size ≤ q → A q) (hK : va_K (dC, dI) vwCl tys s) (hP : va_P (dC, dI) vwCl w H) (hPr : va_P (dC, dI) vwCl wr H) (hD : va_D A (w ++ wr)) (hS : va_S A s.heap H locs) (hrc : ∃ cell : Cell, H[h]? = some cell ∧ cell.vm.isStatics = false ∧ s.vm.findClass C = some cell.cls) (hn : As.length = n) (hsz : ls.size = nL) (hst : st0 = As.reverse ++ .ref h :: rest) (hr : (rest.map fun v => v.category).sum ≤ 8) (hdg : decode cc pc = .ok (.invokevirtual index, 3))
    (kk : ∀ (r : Int32) (u : T) (H1 : Heap) (locs1 : List Loc), post r u → va_P (dC, dI) vwCl (w' u) H1 → va_P (dC, dI) vwCl wr H1 → va_D A (w' u ++ wr) → va_S A s.heap H1 locs1 → W p l e R s m args below meth c H1 locs1 cells slots Q (F0 m (pc + 3) ls (.int r :: rest))) : W p l e R s m args below meth c H locs cells slots Q (F0 m pc ls st0) := by
  have hDc := pd_left hD
  have hFc : ∀ q, va_A w H.size q → A q := by
    rintro q (⟨k, e2, hk⟩ | hq)
    · exact hDc.2 k _ hk
    · exact hA q (Nat.le_trans hS.1 hq)
  refine va_calli (va_runV (As := As) (rest := rest) S hM cw ⟨pd_blind, hrc, fun U hU hW => ⟨rfl, by rw [hU], by rw [hU]; exact hP, va_K.moved hW.alike hK, hDc.weaken (fun _ _ _ _ => trivial)⟩⟩ rfl hn hsz hst (lv_room hr) hdg hf) hS (fun q _ h => hFc q h) hFc (fun r u t H1 locs1 ht hvm hw1 hB hz1 hk1 hS1 => ?_)
  obtain ⟨hP1, hD1⟩ := hB
  rw [ht] at hP1
  obtain ⟨hPr1, hD2⟩ := pd_frame hPr hD hFc hk1 hD1
  exact kk r u H1 locs1 hw1 hP1 hPr1 hD2 hS1
theorem pd_cVl {post : Int64 → T → Prop} (S : CallFix p m c cc nL s args Ts own) (hM : Met l y wsy rm (va_Pc (.ref h :: As) (pdPre dC dI tys H.size w)) (va_Ql post (fun u t => pdPost dC dI (va_A w H.size) (w' u) t) (va_A w H.size)) 0 0 (va_A w H.size)) (cw : CallW R s args own C index y bytes maxL ret wsy rm 0 0 n) (hf : cells ≤ R.cells ∧ slots ≤ R.slots) (hA : ∀ q : Nat, s.heap.size ≤ q → A q) (hK : va_K (dC, dI) vwCl tys s) (hP : va_P (dC, dI) vwCl w H) (hPr : va_P (dC, dI) vwCl wr H) (hD : va_D A (w ++ wr)) (hS : va_S A s.heap H locs) (hrc : ∃ cell : Cell, H[h]? = some cell ∧ cell.vm.isStatics = false ∧ s.vm.findClass C = some cell.cls) (hn : As.length = n) (hsz : ls.size = nL) (hst : st0 = As.reverse ++ .ref h :: rest) (hr : (rest.map fun v => v.category).sum ≤ 8) (hdg : decode cc pc = .ok (.invokevirtual index, 3))
    (kk : ∀ (r : Int64) (u : T) (H1 : Heap) (locs1 : List Loc), post r u → va_P (dC, dI) vwCl (w' u) H1 → va_P (dC, dI) vwCl wr H1 → va_D A (w' u ++ wr) → va_S A s.heap H1 locs1 → W p l e R s m args below meth c H1 locs1 cells slots Q (F0 m (pc + 3) ls (.long r :: rest))) : W p l e R s m args below meth c H locs cells slots Q (F0 m pc ls st0) := by
  have hDc := pd_left hD
  have hFc : ∀ q, va_A w H.size q → A q := by
    rintro q (⟨k, e2, hk⟩ | hq)
    · exact hDc.2 k _ hk
    · exact hA q (Nat.le_trans hS.1 hq)
  refine va_calll (va_runV (As := As) (rest := rest) S hM cw ⟨pd_blind, hrc, fun U hU hW => ⟨rfl, by rw [hU], by rw [hU]; exact hP, va_K.moved hW.alike hK, hDc.weaken (fun _ _ _ _ => trivial)⟩⟩ rfl hn hsz hst (lv_room hr) hdg hf) hS (fun q _ h => hFc q h) hFc (fun r u t H1 locs1 ht hvm hw1 hB hz1 hk1 hS1 => ?_)
  obtain ⟨hP1, hD1⟩ := hB
  rw [ht] at hP1
  obtain ⟨hPr1, hD2⟩ := pd_frame hPr hD hFc hk1 hD1
  exact kk r u H1 locs1 hw1 hP1 hPr1 hD2 hS1
theorem pd_cSv1 {post : T → Prop} {ws : va_W} {q0 a : Nat} {e0 : va_E} {e1 : T → va_E} (S : CallFix p m c cc nL s args Ts own) (hM : Met l y wsy rm (va_Pc As (pdPre dC dI tys H.size [(a, e0)])) (va_Qv post (fun u t => pdPost dC dI (va_A [(a, e0)] H.size) [(a, e1 u)] t) (va_A [(a, e0)] H.size)) 0 0 (va_A [(a, e0)] H.size)) (cw : CallB R s args own index y bytes maxL ret wsy rm 0 0 n ∧ (Cond.static y).before args s = true) (hf : cells ≤ R.cells ∧ slots ≤ R.slots) (hA : ∀ q : Nat, s.heap.size ≤ q → A q) (hK : va_K (dC, dI) vwCl tys s) (hP : va_P (dC, dI) vwCl ws H) (hD : va_D A ws) (hS : va_S A s.heap H locs) (he : ws[q0]? = some (a, e0)) (hn : As.length = n) (hsz : ls.size = nL) (hst : st0 = As.reverse ++ rest) (hr : (rest.map fun v => v.category).sum ≤ 8) (hdg : decode cc pc = .ok (.invokestatic index, 3))
    (kk : ∀ (u : T) (H1 : Heap) (locs1 : List Loc), post u → va_P (dC, dI) vwCl (ws.set q0 (a, e1 u)) H1 → va_D A (ws.set q0 (a, e1 u)) → va_S A s.heap H1 locs1 → W p l e R s m args below meth c H1 locs1 cells slots Q (F0 m (pc + 3) ls rest)) : W p l e R s m args below meth c H locs cells slots Q (F0 m pc ls st0) := by
  have hPc := hP.sub (ws' := [(a, e0)]) [q0] (by simp [he])
  have hDc := hD.sub (ws' := [(a, e0)]) [q0] rfl (by simp [he])
  have hFc := va_free (wc := [(a, e0)]) hD hS hA [q0] (by simp [he])
  refine va_callv (va_runS (As := As) (rest := rest) S hM cw ⟨pd_blind, fun U hU hW => ⟨rfl, by rw [hU], by rw [hU]; exact hPc, va_K.moved hW.alike hK, hDc.weaken (fun _ _ _ _ => trivial)⟩⟩ rfl hn hsz hst (lv_room hr) hdg hf) hS (fun q _ h => hFc q h) hFc (fun u t H1 locs1 ht hvm hw1 hB hz1 hk1 hS1 => ?_)
  obtain ⟨hP1, hD1⟩ := hB
  rw [ht] at hP1
  exact kk u H1 locs1 hw1 (pd_setP hP hD he hk1 (hP1 0 _ rfl)) (hD.set he) hS1
end PCR
end
section
/-! the plain law: givings of n columns to n rows, what they cost, the first of the cheapest -/
def pd_S (f : Nat → Int) : Nat → Int
  | 0 => 0
  | k + 1 => pd_S f k + f k
theorem pd_S_s (f : Nat → Int) (n : Nat) : pd_S f (n + 1) = pd_S f n + f n := rfl
theorem pd_S_congr {f g : Nat → Int} (n : Nat) (h : ∀ r, r < n → f r = g r) : pd_S f n = pd_S g n := by
  induction n with
  | zero => rfl
  | succ n ih =>
    rw [pd_S_s, pd_S_s, ih (fun r hr => h r (by omega)), h n (by omega)]
theorem pd_S_one {f g : Nat → Int} {k : Nat} (n : Nat) (hk : k < n) (h : ∀ r, r < n → r ≠ k → f r = g r) : pd_S f n - f k = pd_S g n - g k := by
  induction n with
  | zero => omega
  | succ n ih =>
    rw [pd_S_s, pd_S_s]
    by_cases e : k = n
    · subst e
      have := pd_S_congr (f := f) (g := g) k (fun r hr => h r (by omega) (by omega))
      omega
    · have h1 := ih (by omega) (fun r hr hne => h r (by omega) hne)
      have h2 := h n (by omega) (fun z => e z.symm)
      omega
theorem pd_S_add (f g : Nat → Int) (n : Nat) : pd_S (fun r => f r + g r) n = pd_S f n + pd_S g n := by
  induction n with
  | zero => rfl
  | succ n ih =>
    rw [pd_S_s, pd_S_s, pd_S_s, ih]
    omega
theorem pd_S_le {f g : Nat → Int} (n : Nat) (h : ∀ r, r < n → f r ≤ g r) : pd_S f n ≤ pd_S g n := by
  induction n with
  | zero => exact Int.le_refl _
  | succ n ih =>
    rw [pd_S_s, pd_S_s]
    have h1 := ih (fun r hr => h r (by omega))
    have h2 := h n (by omega)
    omega
theorem pd_S_tight {f g : Nat → Int} (n : Nat) (h : ∀ r, r < n → f r ≤ g r) (e : pd_S f n = pd_S g n) : ∀ r, r < n → f r = g r := by
  induction n with
  | zero => intro r hr; omega
  | succ n ih =>
    rw [pd_S_s, pd_S_s] at e
    have h1 := pd_S_le n (fun r hr => h r (by omega))
    have h2 := h n (by omega)
    intro r hr
    by_cases e2 : r = n
    · subst e2
      omega
    · exact ih (fun r hr => h r (by omega)) (by omega) r (by omega)
theorem pd_S_tail {f g : Nat → Int} {k : Nat} (n : Nat) (hk : k ≤ n) (h : ∀ r, k ≤ r → r < n → f r = g r) : pd_S f n - pd_S f k = pd_S g n - pd_S g k := by
  induction n with
  | zero =>
    have : k = 0 := by omega
    subst this
    omega
  | succ n ih =>
    by_cases e : k = n + 1
    · subst e
      omega
    · rw [pd_S_s, pd_S_s]
      have h1 := ih (by omega) (fun r a b => h r a (by omega))
      have h2 := h n (by omega) (by omega)
      omega
theorem pd_S_bd {f : Nat → Int} (hB : ∀ r, -2147483648 ≤ f r ∧ f r ≤ 2147483648) (n : Nat) : -(2147483648 * (n : Int)) ≤ pd_S f n ∧ pd_S f n ≤ 2147483648 * (n : Int) := by
  induction n with
  | zero => exact ⟨Int.le_refl _, Int.le_refl _⟩
  | succ n ih =>
    rw [pd_S_s]
    have h1 := hB n
    omega
/-- a giving: every row one column, no column twice -/
def pd_giv (n : Nat) (f : Nat → Nat) : Prop := (∀ r, r < n → f r < n) ∧ ∀ r r', r < n → r' < n → f r = f r' → r = r'
theorem pd_giv_drop {n : Nat} {f : Nat → Nat} (h : pd_giv (n + 1) f) : pd_giv n (fun r => if f r = n then f n else f r) := by
  refine ⟨fun r hr => ?_, fun r r' hr hr' e => ?_⟩
  · have h1 := h.1 r (by omega)
    have h2 := h.1 n (by omega)
    have h3 := h.2 r n (by omega) (by omega)
    show (if f r = n then f n else f r) < n
    by_cases c1 : f r = n
    · rw [if_pos c1]
      have : f n ≠ n := fun z => by
        have := h3 (by omega)
        omega
      omega
    · rw [if_neg c1]
      omega
  · have e : (if f r = n then f n else f r) = (if f r' = n then f n else f r') := e
    have a1 := h.2 r r' (by omega) (by omega)
    have a2 := h.2 r n (by omega) (by omega)
    have a3 := h.2 r' n (by omega) (by omega)
    by_cases c1 : f r = n
    · by_cases c2 : f r' = n
      · exact a1 (by omega)
      · rw [if_pos c1, if_neg c2] at e
        have := a3 e.symm
        omega
    · by_cases c2 : f r' = n
      · rw [if_neg c1, if_pos c2] at e
        have := a2 e
        omega
      · rw [if_neg c1, if_neg c2] at e
        exact a1 e
theorem pd_surj : ∀ (n : Nat) (f : Nat → Nat), pd_giv n f → ∀ c, c < n → ∃ r, r < n ∧ f r = c := by
  intro n
  induction n with
  | zero => intro f _ c hc; omega
  | succ n ih =>
    intro f h c hc
    have hd := pd_giv_drop h
    by_cases e : c = f n
    · exact ⟨n, by omega, e.symm⟩
    · by_cases ec : c = n
      · have hk : f n < n := by
          have := h.1 n (by omega)
          omega
        obtain ⟨r, hr, e2⟩ := ih _ hd (f n) hk
        have e2 : (if f r = n then f n else f r) = f n := e2
        by_cases c1 : f r = n
        · exact ⟨r, by omega, by omega⟩
        · rw [if_neg c1] at e2
          have := h.2 r n (by omega) (by omega) e2
          omega
      · obtain ⟨r, hr, e2⟩ := ih _ hd c (by omega)
        have e2 : (if f r = n then f n else f r) = c := e2
        by_cases c1 : f r = n
        · rw [if_pos c1] at e2
          exact absurd e2.symm e
        · rw [if_neg c1] at e2
          exact ⟨r, by omega, e2⟩
theorem pd_S_perm (v : Nat → Int) : ∀ (n : Nat) (f : Nat → Nat), pd_giv n f → pd_S (fun r => v (f r)) n = pd_S v n := by
  intro n
  induction n with
  | zero => intro f _; rfl
  | succ n ih =>
    intro f h
    have hd := pd_giv_drop h
    have h1 : pd_S (fun r => v (if f r = n then f n else f r)) n = pd_S v n := ih _ hd
    rw [pd_S_s, pd_S_s]
    show pd_S (fun r => v (f r)) n + v (f n) = pd_S v n + v n
    by_cases ek : f n = n
    · have h2 : pd_S (fun r => v (f r)) n = pd_S (fun r => v (if f r = n then f n else f r)) n := by
        apply pd_S_congr
        intro r hr
        show v (f r) = v (if f r = n then f n else f r)
        by_cases c1 : f r = n
        · rw [if_pos c1, c1, ek]
        · rw [if_neg c1]
      have h3 : v (f n) = v n := by rw [ek]
      omega
    · obtain ⟨r0, hr0, e0⟩ := pd_surj (n + 1) f h n (by omega)
      have hr1 : r0 < n := by
        have : r0 ≠ n := fun z => by
          subst z
          exact ek e0
        omega
      have hc : ∀ r, r < n → r ≠ r0 → (fun r => v (f r)) r = (fun r => v (if f r = n then f n else f r)) r := by
        intro r hr hne
        show v (f r) = v (if f r = n then f n else f r)
        have c1 : f r ≠ n := fun z => hne (h.2 r r0 (by omega) (by omega) (by rw [z, e0]))
        rw [if_neg c1]
      have h2 : pd_S (fun r => v (f r)) n - v (f r0) = pd_S (fun r => v (if f r = n then f n else f r)) n - v (if f r0 = n then f n else f r0) := pd_S_one n hr1 hc
      have a : v (f r0) = v n := by rw [e0]
      have b : v (if f r0 = n then f n else f r0) = v (f n) := by rw [if_pos e0]
      omega
def pd_cost (C : Nat → Nat → Int) (n : Nat) (f : Nat → Nat) : Int := pd_S (fun r => C r (f r)) n
def pd_opt (C : Nat → Nat → Int) (n : Nat) (f : Nat → Nat) : Prop := pd_giv n f ∧ ∀ g, pd_giv n g → pd_cost C n f ≤ pd_cost C n g
/-- of the cheapest givings the first -/
def pd_lex (C : Nat → Nat → Int) (n : Nat) (f : Nat → Nat) : Prop := pd_opt C n f ∧ ∀ g, pd_opt C n g → ∀ r, r < n → (∀ r', r' < r → g r' = f r') → f r ≤ g r
theorem pd_lex_uniq {C : Nat → Nat → Int} {n : Nat} {f g : Nat → Nat} (hf : pd_lex C n f) (hg : pd_lex C n g) : ∀ r, r < n → f r = g r := by
  intro r
  induction r using Nat.strongRecOn with
  | ind r ih =>
    intro hr
    have h1 := hf.2 g hg.1 r hr (fun r' hr' => (ih r' hr' (by omega)).symm)
    have h2 := hg.2 f hf.1 r hr (fun r' hr' => ih r' hr' (by omega))
    omega
theorem pd_opt_cost {C : Nat → Nat → Int} {n : Nat} {f g : Nat → Nat} (hf : pd_opt C n f) (hg : pd_opt C n g) : pd_cost C n f = pd_cost C n g := Int.le_antisymm (hf.2 g hg.1) (hg.2 f hf.1)
theorem pd_cost_congr {C C' : Nat → Nat → Int} {n : Nat} {f : Nat → Nat} (hC : ∀ r c, r < n → c < n → C r c = C' r c) (hf : pd_giv n f) : pd_cost C n f = pd_cost C' n f := pd_S_congr n (fun r hr => hC r (f r) hr (hf.1 r hr))
theorem pd_opt_congr {C C' : Nat → Nat → Int} {n : Nat} {f : Nat → Nat} (hC : ∀ r c, r < n → c < n → C r c = C' r c) (h : pd_opt C n f) : pd_opt C' n f := ⟨h.1, fun g hg => by rw [← pd_cost_congr hC h.1, ← pd_cost_congr hC hg]; exact h.2 g hg⟩
theorem pd_lex_congr {C C' : Nat → Nat → Int} {n : Nat} {f : Nat → Nat} (hC : ∀ r c, r < n → c < n → C r c = C' r c) (h : pd_lex C n f) : pd_lex C' n f := ⟨pd_opt_congr hC h.1, fun g hg => h.2 g (pd_opt_congr (fun r c a b => (hC r c a b).symm) hg)⟩
theorem pd_dual {n : Nat} (U V : Nat → Int) {g : Nat → Nat} (hg : pd_giv n g) : pd_S (fun r => U r + V (g r)) n = pd_S U n + pd_S V n := by
  have h1 := pd_S_add U (fun r => V (g r)) n
  rw [pd_S_perm V n g hg] at h1
  exact h1
/-- with potentials that leave nothing below 0 and one giving with nothing over: the cheapest are those with nothing over -/
theorem pd_tight {C : Nat → Nat → Int} {U V : Nat → Int} {n : Nat} {f0 : Nat → Nat} (hF : ∀ r c, r < n → c < n → U r + V c ≤ C r c) (h0 : pd_giv n f0) (t0 : ∀ r, r < n → C r (f0 r) = U r + V (f0 r)) {g : Nat → Nat} (hg : pd_giv n g) : pd_opt C n g ↔ ∀ r, r < n → C r (g r) = U r + V (g r) := by
  have lo : ∀ h, pd_giv n h → pd_S U n + pd_S V n ≤ pd_cost C n h := fun h hh => by
    rw [← pd_dual U V hh]
    exact pd_S_le n (fun r hr => hF r (h r) hr (hh.1 r hr))
  have eq : ∀ h, pd_giv n h → (∀ r, r < n → C r (h r) = U r + V (h r)) → pd_cost C n h = pd_S U n + pd_S V n := fun h hh ht => by
    rw [← pd_dual U V hh]
    exact pd_S_congr n ht
  constructor
  · intro ho r hr
    have h1 := ho.2 f0 h0
    have h2 := lo g hg
    have h3 := eq f0 h0 t0
    have h4 : pd_S (fun r => U r + V (g r)) n = pd_S (fun r => C r (g r)) n := by
      rw [pd_dual U V hg]
      have h5 : pd_cost C n g = pd_S (fun r => C r (g r)) n := rfl
      omega
    exact (pd_S_tight n (fun r hr => hF r (g r) hr (hg.1 r hr)) h4 r hr).symm
  · intro ht
    refine ⟨hg, fun h hh => ?_⟩
    rw [eq g hg ht]
    exact lo h hh
/-- no injection of a finite set into itself misses one -/
theorem pd_pigeon {n : Nat} (P : Nat → Prop) (c0 : Nat) (h0 : c0 < n) (hc : P c0) (ph : Nat → Nat) (h1 : ∀ c, c < n → P c → ph c < n ∧ P (ph c) ∧ ph c ≠ c0) (h2 : ∀ c c', c < n → c' < n → P c → P c' → ph c = ph c' → c = c') : False := by
  classical
  have hg : pd_giv n (fun c => if P c then ph c else c) := by
    refine ⟨fun r hr => ?_, fun r r' hr hr' e => ?_⟩
    · show (if P r then ph r else r) < n
      by_cases a : P r
      · rw [if_pos a]
        exact (h1 r hr a).1
      · rw [if_neg a]
        exact hr
    · have e : (if P r then ph r else r) = (if P r' then ph r' else r') := e
      by_cases a : P r
      · by_cases b : P r'
        · rw [if_pos a, if_pos b] at e
          exact h2 r r' hr hr' a b e
        · rw [if_pos a, if_neg b] at e
          exact absurd (by rw [← e]; exact (h1 r hr a).2.1) b
      · by_cases b : P r'
        · rw [if_neg a, if_pos b] at e
          exact absurd (by rw [e]; exact (h1 r' hr' b).2.1) a
        · rw [if_neg a, if_neg b] at e
          exact e
  obtain ⟨x, hx, e⟩ := pd_surj n _ hg c0 h0
  have e : (if P x then ph x else x) = c0 := e
  by_cases a : P x
  · rw [if_pos a] at e
    exact (h1 x hx a).2.2 e
  · rw [if_neg a] at e
    rw [e] at a
    exact a hc
end
section
/-! the reference, plainly: best of a set of columns, by sets; then the first giving, row by row -/
set_option maxRecDepth 100000
def pm_b (S c : Nat) : Nat := S / 2 ^ c % 2
def pm_cnt (S : Nat) : Nat := S % 2 + S / 2 % 2 + S / 4 % 2 + S / 8 % 2 + S / 16 % 2 + S / 32 % 2 + S / 64 % 2 + S / 128 % 2
def pm_rm (S c : Nat) : Nat := if pm_b S c = 1 then S - 2 ^ c else S
theorem pm_rm_lt : ∀ S, S < 256 → ∀ c, c < 8 → pm_b S c = 1 → pm_rm S c < S := by decide +kernel
theorem pm_rm_bit0 : ∀ S, S < 256 → ∀ c, c < 8 → pm_b S c = 1 → ∀ j, j < 8 → pm_b (pm_rm S c) j = if j = c then 0 else pm_b S j := by decide +kernel
theorem pm_rm_bit (S : Nat) (hS : S < 256) (c : Nat) (hc : c < 8) (h : pm_b S c = 1) (j : Nat) (hj : j < 8) : (pm_b (pm_rm S c) j = 1 ↔ pm_b S j = 1 ∧ j ≠ c) := by
  rw [pm_rm_bit0 S hS c hc h j hj]
  by_cases e : j = c
  · rw [if_pos e]
    exact ⟨fun z => absurd z (by decide), fun z => absurd e z.2⟩
  · rw [if_neg e]
    exact ⟨fun z => ⟨z, e⟩, fun z => z.1⟩
theorem pm_rm_cnt : ∀ S, S < 256 → ∀ c, c < 8 → pm_b S c = 1 → pm_cnt (pm_rm S c) + 1 = pm_cnt S := by decide +kernel
theorem pm_full0 : ∀ n, n < 9 → pm_cnt (2 ^ n - 1) = n ∧ 2 ^ n - 1 < 256 ∧ 2 ^ n ≤ 256 ∧ 0 < 2 ^ n := by decide +kernel
theorem pm_full1 : ∀ n, n < 9 → ∀ j, j < 8 → pm_b (2 ^ n - 1) j = if j < n then 1 else 0 := by decide +kernel
theorem pm_full (n : Nat) (hn : n < 9) : pm_cnt (2 ^ n - 1) = n ∧ 2 ^ n - 1 < 256 ∧ 2 ^ n ≤ 256 ∧ 0 < 2 ^ n ∧ ∀ j, j < 8 → (pm_b (2 ^ n - 1) j = 1 ↔ j < n) := by
  obtain ⟨a, b, c, d⟩ := pm_full0 n hn
  refine ⟨a, b, c, d, fun j hj => ?_⟩
  rw [pm_full1 n hn j hj]
  by_cases e : j < n
  · rw [if_pos e]
    exact ⟨fun _ => e, fun _ => rfl⟩
  · rw [if_neg e]
    exact ⟨fun z => absurd z (by decide), fun z => absurd z e⟩
theorem pm_some : ∀ n, n < 9 → ∀ S, S < 2 ^ n → S ≠ 0 → ∃ c, c < n ∧ pm_b S c = 1 := by decide +kernel
theorem pm_sub : ∀ n, n < 9 → ∀ S, S < 2 ^ n → pm_cnt S ≤ n ∧ ∀ j, j < 8 → pm_b S j = 1 → j < n := by decide +kernel
theorem pm_cnt_half : ∀ S, S < 256 → pm_cnt S = S % 2 + pm_cnt (S / 2) := by decide +kernel
theorem pm_cnt_pos : ∀ S, S < 256 → S ≠ 0 → 0 < pm_cnt S := by decide +kernel
theorem pm_i_and : ∀ S, S < 256 → ∀ c, c < 8 → nI S &&& ((nI 1 <<< (nI c &&& 31)) ^^^ (-1)) = nI (pm_rm S c) := by decide +kernel
theorem pm_i_bit : ∀ S, S < 256 → ∀ c, c < 8 → (nI S >>> (nI c &&& 31)) &&& nI 1 = nI (pm_b S c) := by decide +kernel
theorem pm_i_shl : ∀ n, n < 9 → nI 1 <<< (nI n &&& 31) = nI (2 ^ n) := by decide +kernel
theorem pm_i_m2 : ∀ S, S < 256 → nI S &&& nI 1 = nI (S % 2) := by decide +kernel
theorem pm_i_d2 : ∀ S, S < 256 → ((nI S).toUInt32 >>> ((nI 1).toUInt32 &&& Int32.toUInt32 31)).toInt32 = nI (S / 2) := by decide +kernel
/-- rows from row on, columns of S -/
def pm_giv (n row S : Nat) (f : Nat → Nat) : Prop := (∀ r, row ≤ r → r < n → f r < n ∧ pm_b S (f r) = 1) ∧ ∀ r r', row ≤ r → r < n → row ≤ r' → r' < n → f r = f r' → r = r'
def pm_T (C : Nat → Nat → Int) (n row : Nat) (f : Nat → Nat) : Int := pd_S (fun r => C r (f r)) n - pd_S (fun r => C r (f r)) row
def pm_best (C : Nat → Nat → Int) (n S : Nat) (b : Int) : Prop := (∃ f, pm_giv n (n - pm_cnt S) S f ∧ pm_T C n (n - pm_cnt S) f = b) ∧ ∀ f, pm_giv n (n - pm_cnt S) S f → b ≤ pm_T C n (n - pm_cnt S) f
theorem pm_T_step {C : Nat → Nat → Int} {n row : Nat} {f : Nat → Nat} : pm_T C n row f = C row (f row) + pm_T C n (row + 1) f := by
  unfold pm_T
  rw [pd_S_s]
  omega
theorem pm_T_congr {C : Nat → Nat → Int} {n row : Nat} {f g : Nat → Nat} (h : row ≤ n) (e : ∀ r, row ≤ r → r < n → f r = g r) : pm_T C n row f = pm_T C n row g := pd_S_tail n h (fun r a b => by rw [e r a b])
theorem pm_ext {n row S c : Nat} {f : Nat → Nat} (hS : S < 256) (hn : n ≤ 8) (hc : c < n) (hb : pm_b S c = 1) (h : pm_giv n (row + 1) (pm_rm S c) f) : pm_giv n row S (fun r => if r = row then c else f r) := by
  have hk : ∀ r, row + 1 ≤ r → r < n → f r < n ∧ pm_b S (f r) = 1 ∧ f r ≠ c := by
    intro r a b
    obtain ⟨h1, h2⟩ := h.1 r a b
    exact ⟨h1, (pm_rm_bit S hS c (by omega) hb (f r) (by omega)).mp h2⟩
  refine ⟨fun r a b => ?_, fun r r' a b a' b' e => ?_⟩
  · show (if r = row then c else f r) < n ∧ pm_b S (if r = row then c else f r) = 1
    by_cases e : r = row
    · rw [if_pos e]
      exact ⟨hc, hb⟩
    · rw [if_neg e]
      have := hk r (by omega) b
      exact ⟨this.1, this.2.1⟩
  · have e : (if r = row then c else f r) = (if r' = row then c else f r') := e
    by_cases e1 : r = row
    · by_cases e2 : r' = row
      · omega
      · rw [if_pos e1, if_neg e2] at e
        exact absurd e.symm (hk r' (by omega) b').2.2
    · by_cases e2 : r' = row
      · rw [if_neg e1, if_pos e2] at e
        exact absurd e (hk r (by omega) b).2.2
      · rw [if_neg e1, if_neg e2] at e
        exact h.2 r r' (by omega) b (by omega) b' e
theorem pm_res {n row S : Nat} {f : Nat → Nat} (hS : S < 256) (hn : n ≤ 8) (hr : row < n) (h : pm_giv n row S f) : pm_giv n (row + 1) (pm_rm S (f row)) f := by
  obtain ⟨h1, h2⟩ := h.1 row (by omega) hr
  refine ⟨fun r a b => ?_, fun r r' a b a' b' e => h.2 r r' (by omega) b (by omega) b' e⟩
  obtain ⟨h3, h4⟩ := h.1 r (by omega) b
  refine ⟨h3, (pm_rm_bit S hS (f row) (by omega) h2 (f r) (by omega)).mpr ⟨h4, fun e => ?_⟩⟩
  have := h.2 r row (by omega) b (by omega) hr e
  omega
theorem pm_best0 (C : Nat → Nat → Int) (n : Nat) : pm_best C n 0 0 := by
  have h0 : n - pm_cnt 0 = n := rfl
  refine ⟨⟨fun _ => 0, ⟨fun r a b => by omega, fun r r' a b => by omega⟩, ?_⟩, fun f _ => ?_⟩
  · rw [h0]
    unfold pm_T
    omega
  · rw [h0]
    unfold pm_T
    omega
theorem pm_row {n S c : Nat} (hn : n ≤ 8) (hS : S < 2 ^ n) (hc : c < n) (hb : pm_b S c = 1) : n - pm_cnt (pm_rm S c) = n - pm_cnt S + 1 ∧ n - pm_cnt S < n ∧ S < 256 ∧ pm_rm S c < S := by
  have hp := pm_full n (by omega)
  have hS2 : S < 256 := by omega
  have h1 := pm_rm_cnt S hS2 c (by omega) hb
  have h2 := (pm_sub n (by omega) S hS).1
  exact ⟨by omega, by omega, hS2, pm_rm_lt S hS2 c (by omega) hb⟩
theorem pm_upper {C : Nat → Nat → Int} {n S c : Nat} {b m : Int} (hn : n ≤ 8) (hS : S < 2 ^ n) (hc : c < n) (hb : pm_b S c = 1) (h : pm_best C n (pm_rm S c) b) (hm : ∀ f, pm_giv n (n - pm_cnt S) S f → m ≤ pm_T C n (n - pm_cnt S) f) : m ≤ b + C (n - pm_cnt S) c := by
  obtain ⟨e1, e2, e3, e4⟩ := pm_row hn hS hc hb
  obtain ⟨⟨f, hf, hT⟩, -⟩ := h
  rw [e1] at hf hT
  have h1 := hm _ (pm_ext e3 hn hc hb hf)
  rw [pm_T_step] at h1
  have h2 : pm_T C n (n - pm_cnt S + 1) (fun r => if r = n - pm_cnt S then c else f r) = pm_T C n (n - pm_cnt S + 1) f := pm_T_congr (by omega) (fun r a b => if_neg (by omega))
  rw [h2, hT] at h1
  have h3 : (if n - pm_cnt S = n - pm_cnt S then c else f (n - pm_cnt S)) = c := if_pos rfl
  have h4 : m ≤ C (n - pm_cnt S) (if n - pm_cnt S = n - pm_cnt S then c else f (n - pm_cnt S)) + b := h1
  rw [h3] at h4
  omega
theorem pm_best_step {C : Nat → Nat → Int} {n S : Nat} (hn : n ≤ 8) (hS : S < 2 ^ n) (b : Nat → Int) (hb : ∀ c, c < n → pm_b S c = 1 → pm_best C n (pm_rm S c) (b c)) {m : Int} (hm : ∃ c, c < n ∧ pm_b S c = 1 ∧ m = b c + C (n - pm_cnt S) c) (hl : ∀ c, c < n → pm_b S c = 1 → m ≤ b c + C (n - pm_cnt S) c) : pm_best C n S m := by
  constructor
  · obtain ⟨c, hc, hbc, e⟩ := hm
    obtain ⟨e1, e2, e3, e4⟩ := pm_row hn hS hc hbc
    obtain ⟨⟨f, hf, hT⟩, -⟩ := hb c hc hbc
    rw [e1] at hf hT
    refine ⟨_, pm_ext e3 hn hc hbc hf, ?_⟩
    rw [pm_T_step]
    have h2 : pm_T C n (n - pm_cnt S + 1) (fun r => if r = n - pm_cnt S then c else f r) = pm_T C n (n - pm_cnt S + 1) f := pm_T_congr (by omega) (fun r a b => if_neg (by omega))
    rw [h2, hT]
    have h3 : (if n - pm_cnt S = n - pm_cnt S then c else f (n - pm_cnt S)) = c := if_pos rfl
    show C (n - pm_cnt S) (if n - pm_cnt S = n - pm_cnt S then c else f (n - pm_cnt S)) + b c = m
    rw [h3]
    omega
  · intro f hf
    obtain ⟨c, hc, hbc, e⟩ := hm
    obtain ⟨e1, e2, e3, e4⟩ := pm_row hn hS hc hbc
    obtain ⟨h1, h2⟩ := hf.1 (n - pm_cnt S) (by omega) e2
    have h3 := pm_res e3 hn e2 hf
    have h4 := hb _ h1 h2
    have h5 := h4.2
    rw [(pm_row hn hS h1 h2).1] at h5
    have h6 := h5 f h3
    have h7 := hl _ h1 h2
    rw [pm_T_step]
    omega
theorem pm_attain {C : Nat → Nat → Int} {n S : Nat} {bs : Nat → Int} (hn : n ≤ 8) (hS : S < 2 ^ n) (h0 : S ≠ 0) (hb : ∀ X, X < 2 ^ n → pm_best C n X (bs X)) : ∃ c, c < n ∧ pm_b S c = 1 ∧ bs (pm_rm S c) + C (n - pm_cnt S) c = bs S := by
  obtain ⟨c0, hc0, hbc0⟩ := pm_some n (by omega) S hS h0
  obtain ⟨e1, e2, e3, e4⟩ := pm_row hn hS hc0 hbc0
  obtain ⟨⟨f, hf, hT⟩, hl⟩ := hb S hS
  obtain ⟨h1, h2⟩ := hf.1 (n - pm_cnt S) (by omega) e2
  refine ⟨_, h1, h2, ?_⟩
  obtain ⟨f1, f2, f3, f4⟩ := pm_row hn hS h1 h2
  have h4 := hb (pm_rm S (f (n - pm_cnt S))) (by omega)
  have h5 := h4.2
  rw [f1] at h5
  have h6 := h5 f (pm_res e3 hn e2 hf)
  have h7 := pm_upper hn hS h1 h2 h4 hl
  rw [pm_T_step] at hT
  omega
theorem pm_opt {C : Nat → Nat → Int} {n : Nat} {b : Int} (hn : n ≤ 8) (hb : pm_best C n (2 ^ n - 1) b) : (∀ h, pd_giv n h → b ≤ pd_cost C n h) ∧ ∀ h, pd_opt C n h → pd_cost C n h = b := by
  obtain ⟨p1, p2, p3, p5, p4⟩ := pm_full n (by omega)
  obtain ⟨⟨f, hf, hT⟩, hl⟩ := hb
  rw [p1, Nat.sub_self] at hf hT hl
  have hg : ∀ h, pd_giv n h → pm_giv n 0 (2 ^ n - 1) h := fun h hh => ⟨fun r _ b => ⟨hh.1 r b, (p4 (h r) (by have := hh.1 r b; omega)).mpr (hh.1 r b)⟩, fun r r' _ b _ b' e => hh.2 r r' b b' e⟩
  have hT0 : ∀ h, pm_T C n 0 h = pd_cost C n h := fun h => by
    show pd_S _ n - 0 = pd_S _ n
    exact Int.sub_zero _
  have lo : ∀ h, pd_giv n h → b ≤ pd_cost C n h := fun h hh => by
    rw [← hT0]
    exact hl h (hg h hh)
  refine ⟨lo, fun h hh => ?_⟩
  have hf2 : pd_giv n f := ⟨fun r b => (hf.1 r (by omega) b).1, fun r r' b b' e => hf.2 r r' (by omega) b (by omega) b' e⟩
  have h1 := hh.2 f hf2
  have h2 := lo h hh.1
  rw [hT0] at hT
  omega
/-- row rows are given: the set that is left, the giving g so far -/
def pm_K (C : Nat → Nat → Int) (n : Nat) (bs : Nat → Int) (row S : Nat) (g : Nat → Nat) : Prop :=
  row ≤ n ∧ S < 2 ^ n ∧ pm_cnt S + row = n ∧ (∀ j, j < n → (pm_b S j = 1 ↔ ∀ r, r < row → g r ≠ j)) ∧ (∀ r, r < row → g r < n) ∧ (∀ r r', r < row → r' < row → g r = g r' → r = r') ∧ pd_S (fun r => C r (g r)) row + bs S = bs (2 ^ n - 1) ∧ ∀ h, pd_opt C n h → ∀ r, r < row → (∀ r', r' < r → h r' = g r') → g r ≤ h r
theorem pm_K0 {C : Nat → Nat → Int} {n : Nat} {bs : Nat → Int} (g : Nat → Nat) (hn : n ≤ 8) : pm_K C n bs 0 (2 ^ n - 1) g := by
  obtain ⟨p1, p2, p3, p5, p4⟩ := pm_full n (by omega)
  refine ⟨by omega, by omega, by omega, fun j hj => ⟨fun _ r hr => by omega, fun _ => (p4 j (by omega)).mpr hj⟩, fun r hr => by omega, fun r r' hr => by omega, ?_, fun h _ r hr => by omega⟩
  show (0 : Int) + _ = _
  omega
theorem pm_K_left {C : Nat → Nat → Int} {n : Nat} {bs : Nat → Int} {row S : Nat} {g : Nat → Nat} (hn : n ≤ 8) (h : pm_K C n bs row S g) (hr : row < n) : S ≠ 0 ∧ S < 256 ∧ n - pm_cnt S = row := by
  obtain ⟨k1, k2, k3, -⟩ := h
  obtain ⟨p1, p2, p3, p5, p4⟩ := pm_full n (by omega)
  refine ⟨fun z => ?_, by omega, by omega⟩
  rw [z] at k3
  have : pm_cnt 0 = 0 := rfl
  omega
theorem pm_K_step {C : Nat → Nat → Int} {n : Nat} {bs : Nat → Int} {row S k : Nat} {g : Nat → Nat} (hn : n ≤ 8) (hb : ∀ X, X < 2 ^ n → pm_best C n X (bs X)) (h : pm_K C n bs row S g) (hr : row < n) (hk : k < n) (hbk : pm_b S k = 1) (he : bs (pm_rm S k) + C row k = bs S) (hl : ∀ c, c < k → pm_b S c = 1 → bs (pm_rm S c) + C row c ≠ bs S) : pm_K C n bs (row + 1) (pm_rm S k) (fun r => if r = row then k else g r) := by
  obtain ⟨z1, z2, z3⟩ := pm_K_left hn h hr
  obtain ⟨k1, k2, k3, k4, k5, k6, k7, k8⟩ := h
  obtain ⟨e1, e2, e3, e4⟩ := pm_row hn k2 hk hbk
  have hgk : ∀ r, r < row → g r ≠ k := (k4 k hk).mp hbk
  have gne : ∀ r, r < row → (if r = row then k else g r) = g r := fun r a => if_neg (by omega)
  have geq : (if row = row then k else g row) = k := if_pos rfl
  refine ⟨by omega, by omega, ?_, fun j hj => ?_, fun r a => ?_, fun r r' a a' e => ?_, ?_, fun h ho r a ag => ?_⟩
  · have := pm_rm_cnt S z2 k (by omega) hbk
    omega
  · rw [pm_rm_bit S z2 k (by omega) hbk j (by omega), k4 j hj]
    constructor
    · intro q r a
      show (if r = row then k else g r) ≠ j
      by_cases e : r = row
      · rw [if_pos e]
        exact fun z => q.2 z.symm
      · rw [if_neg e]
        exact q.1 r (by omega)
    · intro q
      refine ⟨fun r a => ?_, fun z => ?_⟩
      · have := q r (by omega)
        have this : (if r = row then k else g r) ≠ j := this
        rw [gne r a] at this
        exact this
      · have := q row (by omega)
        have this : (if row = row then k else g row) ≠ j := this
        rw [geq] at this
        exact this z.symm
  · show (if r = row then k else g r) < n
    by_cases e : r = row
    · rw [if_pos e]
      exact hk
    · rw [if_neg e]
      exact k5 r (by omega)
  · have e : (if r = row then k else g r) = (if r' = row then k else g r') := e
    by_cases e1 : r = row
    · by_cases e2 : r' = row
      · omega
      · rw [if_pos e1, if_neg e2] at e
        exact absurd e.symm (hgk r' (by omega))
    · by_cases e2 : r' = row
      · rw [if_neg e1, if_pos e2] at e
        exact absurd e (hgk r (by omega))
      · rw [if_neg e1, if_neg e2] at e
        exact k6 r r' (by omega) (by omega) e
  · rw [pd_S_s]
    have h1 : pd_S (fun r => C r (if r = row then k else g r)) row = pd_S (fun r => C r (g r)) row := pd_S_congr row (fun r a => by
      show C r (if r = row then k else g r) = C r (g r)
      rw [gne r a])
    show pd_S (fun r => C r (if r = row then k else g r)) row + C row (if row = row then k else g row) + bs (pm_rm S k) = bs (2 ^ n - 1)
    rw [h1, geq]
    omega
  · show (if r = row then k else g r) ≤ h r
    have ag2 : ∀ r', r' < r → h r' = g r' := fun r' b => by
      have := ag r' b
      have this : h r' = (if r' = row then k else g r') := this
      rw [gne r' (by omega)] at this
      exact this
    by_cases e : r = row
    · subst e
      rw [if_pos rfl]
      have hin : pm_giv n r S h := by
        refine ⟨fun x a b => ⟨ho.1.1 x b, (k4 (h x) (ho.1.1 x b)).mpr (fun y c q => ?_)⟩, fun x x' a b a' b' q => ho.1.2 x x' b b' q⟩
        rw [← ag2 y c] at q
        have := ho.1.2 y x (by omega) b q
        omega
      have hc : pd_cost C n h = bs (2 ^ n - 1) := (pm_opt hn (hb _ (by have := pm_full n (by omega); omega))).2 h ho
      have hS0 : pd_S (fun r => C r (h r)) r = pd_S (fun r => C r (g r)) r := pd_S_congr r (fun x a => by rw [ag2 x a])
      have hT : pm_T C n r h = bs S := by
        unfold pm_T
        have hc2 : pd_S (fun r => C r (h r)) n = bs (2 ^ n - 1) := hc
        omega
      obtain ⟨i1, i2⟩ := hin.1 r (by omega) hr
      have hbr := hb (pm_rm S (h r)) (by have := (pm_row hn k2 i1 i2).2.2.2; omega)
      have hup : bs S ≤ bs (pm_rm S (h r)) + C (n - pm_cnt S) (h r) := pm_upper hn k2 i1 i2 hbr (hb S k2).2
      rw [z3] at hup
      have hlo := hbr.2
      rw [(pm_row hn k2 i1 i2).1, z3] at hlo
      have hlo2 := hlo h (pm_res z2 hn hr hin)
      rw [pm_T_step] at hT
      rcases Nat.lt_or_ge (h r) k with q | q
      · exact absurd (by omega) (hl (h r) q i2)
      · exact q
    · rw [if_neg e]
      exact k8 h ho r (by omega) ag2
theorem pm_K_end {C : Nat → Nat → Int} {n : Nat} {bs : Nat → Int} {S : Nat} {g : Nat → Nat} (hn : n ≤ 8) (hb : ∀ X, X < 2 ^ n → pm_best C n X (bs X)) (h : pm_K C n bs n S g) : pd_lex C n g ∧ pd_cost C n g = bs (2 ^ n - 1) := by
  obtain ⟨k1, k2, k3, k4, k5, k6, k7, k8⟩ := h
  obtain ⟨p1, p2, p3, p5, p4⟩ := pm_full n (by omega)
  have hS : S = 0 := by
    rcases Nat.eq_zero_or_pos S with q | q
    · exact q
    · have := pm_cnt_pos S (by omega) (by omega)
      omega
  have h0 : bs 0 = 0 := by
    have a := hb 0 p5
    have b := pm_best0 C n
    obtain ⟨f, hf, e⟩ := a.1
    obtain ⟨f', hf', e'⟩ := b.1
    have c1 := a.2 f' hf'
    have c2 := b.2 f hf
    omega
  have hc : pd_cost C n g = bs (2 ^ n - 1) := by
    have : pd_cost C n g = pd_S (fun r => C r (g r)) n := rfl
    rw [hS] at k7
    omega
  refine ⟨⟨⟨⟨k5, k6⟩, fun h hh => ?_⟩, k8⟩, hc⟩
  rw [hc]
  exact (pm_opt hn (hb _ (by omega))).1 h hh
theorem pm_best_bd {C : Nat → Nat → Int} (hC : ∀ r c, -2147483648 ≤ C r c ∧ C r c ≤ 2147483648) {n S : Nat} {b : Int} (hn : n ≤ 8) (h : pm_best C n S b) : -34359738368 ≤ b ∧ b ≤ 34359738368 := by
  obtain ⟨⟨f, hf, e⟩, -⟩ := h
  unfold pm_T at e
  have h1 := pd_S_bd (f := fun r => C r (f r)) (fun r => hC r (f r)) n
  have h2 := pd_S_bd (f := fun r => C r (f r)) (fun r => hC r (f r)) (n - pm_cnt S)
  omega
end
section
/-! find and order, plainly: t r c says that row r and column c have nothing over -/
theorem fd_inj {a b n : Nat} (hn : n ≤ 9) (ha : a < n) (hb : b < n) (e : nI a = nI b) : a = b := (nI_eq (by omega) (by omega)).mp e
def fd_pre (n x fr : Nat) (dn ro cl : Nat → Int32) : Prop := x < n ∧ fr < n ∧ dn fr = 0 ∧ ∀ c, c < n → dn c = 0 → c ≠ fr → ∃ y, y < n ∧ ro c = nI y ∧ y ≠ x ∧ cl y = nI c
def fd_ok (t : Nat → Nat → Prop) (n x fr : Nat) (dn ro cl ro' cl' : Nat → Int32) : Prop :=
  (∀ c, c < n → dn c ≠ 0 → ro' c = ro c) ∧
  (∀ c, c < n → dn c = 0 → ∃ y, y < n ∧ ro' c = nI y ∧ cl' y = nI c ∧ (t y c ∨ (ro c = nI y ∧ c ≠ fr)) ∧ (y = x ∨ ∃ c', c' < n ∧ dn c' = 0 ∧ c' ≠ fr ∧ ro c' = nI y)) ∧
  (∀ y, y < n → y ≠ x → (∀ c', c' < n → dn c' = 0 → c' ≠ fr → ro c' ≠ nI y) → cl' y = cl y)
def fd_no (t : Nat → Nat → Prop) (n x fr : Nat) (dn dn' ro : Nat → Int32) : Prop :=
  (∀ c, c < n → dn c ≠ 0 → dn' c ≠ 0) ∧ dn' fr = 0 ∧ (∀ c, c < n → t x c → dn' c ≠ 0) ∧
  ∀ c, c < n → dn c = 0 → dn' c ≠ 0 → ∃ y, y < n ∧ ro c = nI y ∧ ∀ c', c' < n → t y c' → dn' c' ≠ 0
def fd_in (t : Nat → Nat → Prop) (n x fr : Nat) (dn dn' ro : Nat → Int32) (k : Nat) : Prop :=
  (∀ c, c < n → dn c ≠ 0 → dn' c ≠ 0) ∧ dn' fr = 0 ∧ (∀ c, c < k → t x c → dn' c ≠ 0) ∧
  ∀ c, c < n → dn c = 0 → dn' c ≠ 0 → ∃ y, y < n ∧ ro c = nI y ∧ ∀ c', c' < n → t y c' → dn' c' ≠ 0
theorem fd_in0 {t : Nat → Nat → Prop} {n x fr : Nat} {dn ro : Nat → Int32} (h : dn fr = 0) : fd_in t n x fr dn dn ro 0 := ⟨fun _ _ h => h, h, fun c hc => by omega, fun c _ a b => absurd a b⟩
theorem fd_in_skip {t : Nat → Nat → Prop} {n x fr k : Nat} {dn d ro : Nat → Int32} (h : fd_in t n x fr dn d ro k) (hk : t x k → d k ≠ 0) : fd_in t n x fr dn d ro (k + 1) := by
  refine ⟨h.1, h.2.1, fun c hc ht => ?_, h.2.2.2⟩
  by_cases e : c = k
  · subst e
    exact hk ht
  · exact h.2.2.1 c (by omega) ht
theorem fd_u1 {d : Nat → Int32} {k : Nat} : upd d k 1 k ≠ 0 := by
  rw [pk_us]
  decide
theorem fd_in_rec {t : Nat → Nat → Prop} {n x fr k y : Nat} {dn d d2 ro : Nat → Int32} (h : fd_in t n x fr dn d ro k) (hk : k < n) (hy : y < n) (hro : ro k = nI y) (hr : fd_no t n y fr (upd d k 1) d2 ro) : fd_in t n x fr dn d2 ro (k + 1) := by
  have hup : ∀ c, c < n → d c ≠ 0 → d2 c ≠ 0 := fun c hc hd => by
    refine hr.1 c hc ?_
    by_cases e : c = k
    · subst e
      exact fd_u1
    · rw [pk_un e]
      exact hd
  have hkk : d2 k ≠ 0 := hr.1 k hk fd_u1
  refine ⟨fun c hc hd => hup c hc (h.1 c hc hd), hr.2.1, fun c hc ht => ?_, fun c hc h0 h1 => ?_⟩
  · by_cases e : c = k
    · subst e
      exact hkk
    · exact hup c (by omega) (h.2.2.1 c (by omega) ht)
  · by_cases e : c = k
    · subst e
      exact ⟨y, hy, hro, hr.2.2.1⟩
    · by_cases hd : d c = 0
      · exact hr.2.2.2 c hc (by rw [pk_un e]; exact hd) h1
      · obtain ⟨z, hz, ez, hz2⟩ := h.2.2.2 c hc h0 hd
        exact ⟨z, hz, ez, fun c' hc' ht => hup c' hc' (hz2 c' hc' ht)⟩
theorem fd_in_end {t : Nat → Nat → Prop} {n x fr : Nat} {dn d ro : Nat → Int32} (h : fd_in t n x fr dn d ro n) : fd_no t n x fr dn d ro := h
theorem fd_pre_d {n x fr : Nat} {dn d ro cl : Nat → Int32} (h : fd_pre n x fr dn ro cl) (h1 : ∀ c, c < n → dn c ≠ 0 → d c ≠ 0) (h2 : d fr = 0) : fd_pre n x fr d ro cl := by
  refine ⟨h.1, h.2.1, h2, fun c hc hd hne => h.2.2.2 c hc ?_ hne⟩
  by_cases e : dn c = 0
  · exact e
  · exact absurd hd (h1 c hc e)
theorem fd_pre_in {n x fr k y : Nat} {d ro cl : Nat → Int32} (hn : n ≤ 8) (h : fd_pre n x fr d ro cl) (hk : k < n) (hd : d k = 0) (hne : k ≠ fr) (hro : ro k = nI y) (hy : y < n) : fd_pre n y fr (upd d k 1) ro cl := by
  refine ⟨hy, h.2.1, ?_, fun c hc hc0 hcf => ?_⟩
  · rw [pk_un (fun z => hne z.symm)]
    exact h.2.2.1
  · have hck : c ≠ k := fun z => by
      subst z
      exact fd_u1 hc0
    rw [pk_un hck] at hc0
    obtain ⟨z, hz, ez, hzx, hzc⟩ := h.2.2.2 c hc hc0 hcf
    obtain ⟨z2, hz2, ez2, hzx2, hzc2⟩ := h.2.2.2 k hk hd hne
    refine ⟨z, hz, ez, fun q => ?_, hzc⟩
    rw [hro] at ez2
    have e1 := fd_inj (n := n) (by omega) hy hz2 ez2
    subst q
    rw [← e1, hzc] at hzc2
    exact hck (fd_inj (n := n) (by omega) hc hk hzc2)
theorem fd_ok_free {t : Nat → Nat → Prop} {n x fr : Nat} {d ro cl : Nat → Int32} (h : fd_pre n x fr d ro cl) (ht : t x fr) : fd_ok t n x fr d ro cl (upd ro fr (nI x)) (upd cl x (nI fr)) := by
  obtain ⟨h1, h2, h3, h4⟩ := h
  refine ⟨fun c hc hd => ?_, fun c hc hd => ?_, fun y hy hyx _ => pk_un hyx⟩
  · rw [pk_un (fun z => by subst z; exact hd h3)]
  · by_cases e : c = fr
    · subst e
      exact ⟨x, h1, pk_us, pk_us, Or.inl ht, Or.inl rfl⟩
    · obtain ⟨y, hy, ey, hyx, hyc⟩ := h4 c hc hd e
      exact ⟨y, hy, by rw [pk_un e]; exact ey, by rw [pk_un hyx]; exact hyc, Or.inr ⟨ey, e⟩, Or.inr ⟨c, hc, hd, e, ey⟩⟩
theorem fd_ok_rec {t : Nat → Nat → Prop} {n x fr k y : Nat} {d ro cl ro1 cl1 : Nat → Int32} (hn : n ≤ 8) (h : fd_pre n x fr d ro cl) (hk : k < n) (hd : d k = 0) (hne : k ≠ fr) (ht : t x k) (hro : ro k = nI y) (hy : y < n) (hr : fd_ok t n y fr (upd d k 1) ro cl ro1 cl1) : fd_ok t n x fr d ro cl (upd ro1 k (nI x)) (upd cl1 x (nI k)) := by
  obtain ⟨h1, h2, h3, h4⟩ := h
  obtain ⟨r1, r2, r3⟩ := hr
  have hyx : y ≠ x := fun q => by
    obtain ⟨z2, hz2, ez2, hzx2, hzc2⟩ := h4 k hk hd hne
    rw [hro] at ez2
    exact hzx2 (by rw [← fd_inj (n := n) (by omega) hy hz2 ez2]; exact q)
  refine ⟨fun c hc hcd => ?_, fun c hc hcd => ?_, fun z hz hzx hno => ?_⟩
  · have hck : c ≠ k := fun z => by
      subst z
      exact hcd hd
    rw [pk_un hck]
    exact r1 c hc (by rw [pk_un hck]; exact hcd)
  · by_cases e : c = k
    · subst e
      exact ⟨x, h1, pk_us, pk_us, Or.inl ht, Or.inl rfl⟩
    · obtain ⟨z, hz, ez, hzc, hzt, hzi⟩ := r2 c hc (by rw [pk_un e]; exact hcd)
      have hzi2 : ∃ c', c' < n ∧ d c' = 0 ∧ c' ≠ fr ∧ ro c' = nI z := by
        rcases hzi with q | ⟨c', a1, a2, a3, a4⟩
        · exact ⟨k, hk, hd, hne, by rw [q]; exact hro⟩
        · have hck : c' ≠ k := fun w => by
            subst w
            exact fd_u1 a2
          rw [pk_un hck] at a2
          exact ⟨c', a1, a2, a3, a4⟩
      have hzx : z ≠ x := fun q => by
        obtain ⟨c', a1, a2, a3, a4⟩ := hzi2
        obtain ⟨w, hw, ew, hwx, -⟩ := h4 c' a1 a2 a3
        rw [a4] at ew
        exact hwx (by rw [← fd_inj (n := n) (by omega) hz hw ew]; exact q)
      exact ⟨z, hz, by rw [pk_un e]; exact ez, by rw [pk_un hzx]; exact hzc, hzt, Or.inr hzi2⟩
  · rw [pk_un hzx]
    refine r3 z hz (fun q => hno k hk hd hne (by rw [q]; exact hro)) (fun c' a1 a2 a3 => ?_)
    have hck : c' ≠ k := fun w => by
      subst w
      exact fd_u1 a2
    rw [pk_un hck] at a2
    exact hno c' a1 a2 a3
theorem fd_ok_mono {t : Nat → Nat → Prop} {n x fr : Nat} {dn d ro cl ro' cl' : Nat → Int32} (hn : n ≤ 8) (h : fd_pre n x fr dn ro cl) (h1 : ∀ c, c < n → dn c ≠ 0 → d c ≠ 0) (h2 : d fr = 0) (hr : fd_ok t n x fr d ro cl ro' cl') : fd_ok t n x fr dn ro cl ro' cl' := by
  obtain ⟨p1, p2, p3, p4⟩ := h
  obtain ⟨r1, r2, r3⟩ := hr
  have h1b : ∀ c, c < n → d c = 0 → dn c = 0 := fun c hc hd => by
    by_cases e : dn c = 0
    · exact e
    · exact absurd hd (h1 c hc e)
  refine ⟨fun c hc hd => r1 c hc (h1 c hc hd), fun c hc hd => ?_, fun y hy hyx hno => r3 y hy hyx (fun c' a1 a2 a3 => hno c' a1 (h1b c' a1 a2) a3)⟩
  by_cases e : d c = 0
  · obtain ⟨y, hy, ey, hyc, hyt, hyi⟩ := r2 c hc e
    refine ⟨y, hy, ey, hyc, hyt, ?_⟩
    rcases hyi with q | ⟨c', a1, a2, a3, a4⟩
    · exact Or.inl q
    · exact Or.inr ⟨c', a1, h1b c' a1 a2, a3, a4⟩
  · have hcf : c ≠ fr := fun z => by
      subst z
      exact e h2
    obtain ⟨y, hy, ey, hyx, hyc⟩ := p4 c hc hd hcf
    refine ⟨y, hy, by rw [r1 c hc e]; exact ey, ?_, Or.inr ⟨ey, hcf⟩, Or.inr ⟨c, hc, hd, hcf, ey⟩⟩
    rw [r3 y hy hyx (fun c' a1 a2 a3 a4 => ?_)]
    · exact hyc
    · obtain ⟨w, hw, ew, hwx, hwc⟩ := p4 c' a1 (h1b c' a1 a2) a3
      rw [a4] at ew
      have e1 := fd_inj (n := n) (by omega) hy hw ew
      rw [← e1, hyc] at hwc
      have e2 := fd_inj (n := n) (by omega) hc a1 hwc
      rw [← e2] at a2
      exact e a2
/-- how many columns are not done -/
def fd_u (d : Nat → Int32) : Nat → Nat
  | 0 => 0
  | k + 1 => fd_u d k + (if d k = 0 then 1 else 0)
theorem fd_u_s (d : Nat → Int32) (k : Nat) : fd_u d (k + 1) = fd_u d k + (if d k = 0 then 1 else 0) := rfl
theorem fd_u_le (d : Nat → Int32) (n : Nat) : fd_u d n ≤ n := by
  induction n with
  | zero => exact Nat.le_refl _
  | succ n ih =>
    rw [fd_u_s]
    split <;> omega
theorem fd_u_mono {d d' : Nat → Int32} (n : Nat) (h : ∀ c, c < n → d c ≠ 0 → d' c ≠ 0) : fd_u d' n ≤ fd_u d n := by
  induction n with
  | zero => exact Nat.le_refl _
  | succ n ih =>
    have h1 := ih (fun c hc => h c (by omega))
    have h2 := h n (by omega)
    rw [fd_u_s, fd_u_s]
    by_cases e : d n = 0
    · rw [if_pos e]
      split <;> omega
    · rw [if_neg e, if_neg (h2 e)]
      omega
theorem fd_u_pos {d : Nat → Int32} {k : Nat} (n : Nat) (hk : k < n) (h : d k = 0) : 0 < fd_u d n := by
  induction n with
  | zero => omega
  | succ n ih =>
    rw [fd_u_s]
    by_cases e : k = n
    · subst e
      rw [if_pos h]
      omega
    · have := ih (by omega)
      omega
theorem fd_u_same {d d' : Nat → Int32} (n : Nat) (h : ∀ c, c < n → d c = d' c) : fd_u d n = fd_u d' n := by
  induction n with
  | zero => rfl
  | succ n ih => rw [fd_u_s, fd_u_s, ih (fun c hc => h c (by omega)), h n (by omega)]
theorem fd_u_upd {d : Nat → Int32} {k : Nat} (n : Nat) (hk : k < n) (h : d k = 0) : fd_u (upd d k 1) n + 1 = fd_u d n := by
  induction n with
  | zero => omega
  | succ n ih =>
    rw [fd_u_s, fd_u_s]
    by_cases e : k = n
    · subst e
      rw [if_neg fd_u1, if_pos h, fd_u_same (d := upd d k 1) (d' := d) k (fun c hc => pk_un (by omega))]
    · have := ih (by omega)
      rw [pk_un (f := d) (k := k) (j := n) (x := 1) (fun z => e z.symm)]
      omega
/-- the giving f, as both tables hold it, nothing over -/
def od_f (t : Nat → Nat → Prop) (n : Nat) (ro cl : Nat → Int32) (f : Nat → Nat) : Prop := pd_giv n f ∧ ∀ r, r < n → cl r = nI (f r) ∧ ro (f r) = nI r ∧ t r (f r)
theorem od_at {t : Nat → Nat → Prop} {n : Nat} {ro cl : Nat → Int32} {f : Nat → Nat} (h : od_f t n ro cl f) {c : Nat} (hc : c < n) : ∃ r, r < n ∧ f r = c ∧ ro c = nI r ∧ cl r = nI c ∧ t r c := by
  obtain ⟨r, hr, e⟩ := pd_surj n f h.1 c hc
  obtain ⟨a1, a2, a3⟩ := h.2 r hr
  rw [e] at a1 a2 a3
  exact ⟨r, hr, e, a2, a1, a3⟩
/-- what is done ahead of a search: the columns of the rows ahead of r, and c -/
def od_dn (n r c : Nat) (dn ro : Nat → Int32) : Prop := ∀ k y, k < n → y < n → ro k = nI y → (dn k ≠ 0 ↔ (y < r ∨ k = c))
theorem od_pre {t : Nat → Nat → Prop} {n r c x : Nat} {dn ro cl : Nat → Int32} {f : Nat → Nat} (hn : n ≤ 8) (h : od_f t n ro cl f) (hr : r < n) (hc : c < n) (hcx : ro c = nI x) (hx : x < n) (hrx : r < x) (hd : od_dn n r c dn ro) : fd_pre n x (f r) dn ro cl := by
  obtain ⟨a1, a2, a3⟩ := h.2 r hr
  have hfr := h.1.1 r hr
  have hfc : f x = c := by
    obtain ⟨z, hz, e1, e2, e3, e4⟩ := od_at h hc
    rw [hcx] at e2
    rw [fd_inj (n := n) (by omega) hx hz e2]
    exact e1
  refine ⟨hx, hfr, ?_, fun k hk hk0 hkf => ?_⟩
  · by_cases e : dn (f r) = 0
    · exact e
    · rcases (hd (f r) r hfr hr a2).mp e with q | q
      · omega
      · rw [← hfc] at q
        have := h.1.2 r x hr hx q
        omega
  · obtain ⟨y, hy, e1, e2, e3, e4⟩ := od_at h hk
    refine ⟨y, hy, e2, fun q => ?_, e3⟩
    subst q
    rw [hfc] at e1
    exact (hd k y hk hy e2).mpr (Or.inr e1.symm) hk0
theorem od_no {t : Nat → Nat → Prop} {n r c x : Nat} {dn dn' ro cl : Nat → Int32} {f g : Nat → Nat} (hn : n ≤ 8) (h : od_f t n ro cl f) (hr : r < n) (hc : c < n) (hcx : ro c = nI x) (hx : x < n) (hrx : r < x) (hd : od_dn n r c dn ro) (hno : fd_no t n x (f r) dn dn' ro) (hg : pd_giv n g) (hgt : ∀ y, y < n → t y (g y)) (hag : ∀ r', r' < r → g r' = f r') (hgr : g r = c) : False := by
  obtain ⟨n1, n2, n3, n4⟩ := hno
  have cl_ : ∀ {a : Nat}, a < n → (nI a).toNatClampNeg = a := fun ha => nI_clamp (by omega)
  have key : ∀ k, k < n → (k = c ∨ (dn k = 0 ∧ dn' k ≠ 0)) → ∃ y, y < n ∧ f y = k ∧ ro k = nI y ∧ r < y ∧ ∀ c', c' < n → t y c' → dn' c' ≠ 0 := by
    intro k hk hp
    obtain ⟨y, hy, e1, e2, e3, e4⟩ := od_at h hk
    rcases hp with q | ⟨q1, q2⟩
    · subst q
      rw [hcx] at e2
      have e5 := fd_inj (n := n) (by omega) hx hy e2
      subst e5
      exact ⟨x, hx, e1, hcx, hrx, n3⟩
    · obtain ⟨z, hz, ez, hz2⟩ := n4 k hk q1 q2
      rw [ez] at e2
      have e5 := fd_inj (n := n) (by omega) hz hy e2
      subst e5
      have hnd : ¬ (z < r ∨ k = c) := fun w => (hd k z hk hz ez).mpr w q1
      have hzr : z ≠ r := fun w => by
        subst w
        rw [e1] at n2
        exact q2 n2
      exact ⟨z, hz, e1, ez, by omega, hz2⟩
  refine pd_pigeon (n := n) (fun k => k = c ∨ (dn k = 0 ∧ dn' k ≠ 0)) c hc (Or.inl rfl) (fun k => g (ro k).toNatClampNeg) (fun k hk hp => ?_) (fun k k' hk hk' hp hp' e => ?_)
  · obtain ⟨y, hy, e1, e2, hry, hcl⟩ := key k hk hp
    show g (ro k).toNatClampNeg < n ∧ (g (ro k).toNatClampNeg = c ∨ (dn (g (ro k).toNatClampNeg) = 0 ∧ dn' (g (ro k).toNatClampNeg) ≠ 0)) ∧ g (ro k).toNatClampNeg ≠ c
    rw [e2, cl_ hy]
    have hgy := hg.1 y hy
    have hne : g y ≠ c := fun w => by
      rw [← hgr] at w
      have := hg.2 y r hy hr w
      omega
    have hd1 := hcl (g y) hgy (hgt y hy)
    have hd0 : dn (g y) = 0 := by
      obtain ⟨z, hz, z1, z2, z3, z4⟩ := od_at h hgy
      by_cases w : dn (g y) = 0
      · exact w
      · rcases (hd (g y) z hgy hz z2).mp w with q | q
        · rw [← hag z q] at z1
          have := hg.2 z y hz hy z1
          omega
        · exact absurd q hne
    exact ⟨hgy, Or.inr ⟨hd0, hd1⟩, hne⟩
  · obtain ⟨y, hy, e1, e2, hry, -⟩ := key k hk hp
    obtain ⟨y', hy', e1', e2', hry', -⟩ := key k' hk' hp'
    have e : g (ro k).toNatClampNeg = g (ro k').toNatClampNeg := e
    rw [e2, e2', cl_ hy, cl_ hy'] at e
    have := hg.2 y y' hy hy' e
    subst this
    rw [← e1, ← e1']
theorem od_yes {t : Nat → Nat → Prop} {n r c x : Nat} {dn ro cl ro' cl' : Nat → Int32} {f : Nat → Nat} (hn : n ≤ 8) (h : od_f t n ro cl f) (hr : r < n) (hc : c < n) (hcx : ro c = nI x) (hx : x < n) (hrx : r < x) (hd : od_dn n r c dn ro) (htc : t r c) (hok : fd_ok t n x (f r) dn ro cl ro' cl') : ∃ f', od_f t n (upd ro' c (nI r)) (upd cl' r (nI c)) f' ∧ (∀ r', r' < r → f' r' = f r') ∧ f' r = c := by
  obtain ⟨o1, o2, o3⟩ := hok
  have cl_ : ∀ {a : Nat}, a < n → (nI a).toNatClampNeg = a := fun ha => nI_clamp (by omega)
  have hfc : f x = c := by
    obtain ⟨z, hz, e1, e2, e3, e4⟩ := od_at h hc
    rw [hcx] at e2
    rw [fd_inj (n := n) (by omega) hx hz e2]
    exact e1
  have hlow : ∀ y, y < r → upd cl' r (nI c) y = nI (f y) ∧ upd ro' c (nI r) (f y) = nI y := by
    intro y hy
    obtain ⟨a1, a2, a3⟩ := h.2 y (by omega)
    have hfy := h.1.1 y (by omega)
    have hdy : dn (f y) ≠ 0 := (hd (f y) y hfy (by omega) a2).mpr (Or.inl hy)
    have hyc : f y ≠ c := fun w => by
      rw [← hfc] at w
      have := h.1.2 y x (by omega) hx w
      omega
    constructor
    · rw [pk_un (by omega), o3 y (by omega) (by omega) (fun c' b1 b2 b3 b4 => (hd c' y b1 (by omega) b4).mpr (Or.inl hy) b2)]
      exact a1
    · rw [pk_un hyc, o1 _ hfy hdy]
      exact a2
  have hA : ∀ k, k < n → ∃ y, y < n ∧ upd ro' c (nI r) k = nI y ∧ upd cl' r (nI c) y = nI k ∧ t y k := by
    intro k hk
    by_cases e : k = c
    · subst e
      exact ⟨r, hr, pk_us, pk_us, htc⟩
    · by_cases e0 : dn k = 0
      · obtain ⟨y, hy, ey, hyc, hyt, hyi⟩ := o2 k hk e0
        have hyr : y ≠ r := fun w => by
          rcases hyi with q | ⟨c', b1, b2, b3, b4⟩
          · omega
          · obtain ⟨z, hz, z1, z2, z3, z4⟩ := od_at h b1
            rw [b4] at z2
            have := fd_inj (n := n) (by omega) hy hz z2
            subst this
            rw [w] at z1
            exact b3 z1.symm
        refine ⟨y, hy, by rw [pk_un e]; exact ey, by rw [pk_un hyr]; exact hyc, ?_⟩
        rcases hyt with q | ⟨q, -⟩
        · exact q
        · obtain ⟨z, hz, z1, z2, z3, z4⟩ := od_at h hk
          rw [q] at z2
          rw [fd_inj (n := n) (by omega) hy hz z2]
          exact z4
      · obtain ⟨y, hy, z1, z2, z3, z4⟩ := od_at h hk
        have hyr : y < r := by
          rcases (hd k y hk hy z2).mp e0 with q | q
          · exact q
          · exact absurd q e
        have := hlow y hyr
        rw [z1] at this
        exact ⟨y, hy, this.2, this.1, z4⟩
  have hgiv : pd_giv n (fun k => (upd ro' c (nI r) k).toNatClampNeg) := by
    refine ⟨fun k hk => ?_, fun k k' hk hk' e => ?_⟩
    · obtain ⟨y, hy, e1, e2, e3⟩ := hA k hk
      show (upd ro' c (nI r) k).toNatClampNeg < n
      rw [e1, cl_ hy]
      exact hy
    · obtain ⟨y, hy, e1, e2, e3⟩ := hA k hk
      obtain ⟨y', hy', e1', e2', e3'⟩ := hA k' hk'
      have e : (upd ro' c (nI r) k).toNatClampNeg = (upd ro' c (nI r) k').toNatClampNeg := e
      rw [e1, e1', cl_ hy, cl_ hy'] at e
      subst e
      rw [e2] at e2'
      exact fd_inj (n := n) (by omega) hk hk' e2'
  have hB : ∀ y, y < n → ∃ k, k < n ∧ upd ro' c (nI r) k = nI y ∧ upd cl' r (nI c) y = nI k ∧ t y k := by
    intro y hy
    obtain ⟨k, hk, e⟩ := pd_surj n _ hgiv y hy
    have e : (upd ro' c (nI r) k).toNatClampNeg = y := e
    obtain ⟨z, hz, e1, e2, e3⟩ := hA k hk
    rw [e1, cl_ hz] at e
    subst e
    exact ⟨k, hk, e1, e2, e3⟩
  refine ⟨fun y => (upd cl' r (nI c) y).toNatClampNeg, ⟨⟨fun y hy => ?_, fun y y' hy hy' e => ?_⟩, fun y hy => ?_⟩, fun y hy => ?_, ?_⟩
  · obtain ⟨k, hk, e1, e2, e3⟩ := hB y hy
    show (upd cl' r (nI c) y).toNatClampNeg < n
    rw [e2, cl_ hk]
    exact hk
  · obtain ⟨k, hk, e1, e2, e3⟩ := hB y hy
    obtain ⟨k', hk', e1', e2', e3'⟩ := hB y' hy'
    have e : (upd cl' r (nI c) y).toNatClampNeg = (upd cl' r (nI c) y').toNatClampNeg := e
    rw [e2, e2', cl_ hk, cl_ hk'] at e
    subst e
    rw [e1] at e1'
    exact fd_inj (n := n) (by omega) hy hy' e1'
  · obtain ⟨k, hk, e1, e2, e3⟩ := hB y hy
    show upd cl' r (nI c) y = nI (upd cl' r (nI c) y).toNatClampNeg ∧ upd ro' c (nI r) (upd cl' r (nI c) y).toNatClampNeg = nI y ∧ t y (upd cl' r (nI c) y).toNatClampNeg
    rw [e2, cl_ hk]
    exact ⟨rfl, e1, e3⟩
  · show (upd cl' r (nI c) y).toNatClampNeg = f y
    rw [(hlow y hy).1, cl_ (h.1.1 y (by omega))]
  · show (upd cl' r (nI c) r).toNatClampNeg = c
    rw [pk_us, cl_ hc]
end
section
/-! place, plainly: potentials, the cheapest way, the change along it -/
def pl_ov (co : Nat → Int32) (u v : Nat → Int64) (r c : Nat) : Int := (co (8 * r + c)).toInt - (u r).toInt - (v c).toInt
theorem pl_C (co : Nat → Int32) (k : Nat) : -2147483648 ≤ (co k).toInt ∧ (co k).toInt ≤ 2147483647 := by
  have a := (co k).le_toInt
  have b := (co k).toInt_lt
  omega
theorem pl_ov64 {x : Int32} {a b : Int64} (ha : -8589934592 ≤ a.toInt ∧ a.toInt ≤ 8589934592) (hb : -8589934592 ≤ b.toInt ∧ b.toInt ≤ 8589934592) : (x.toInt64 - a - b).toInt = x.toInt - a.toInt - b.toInt := by
  have h1 := x.le_toInt
  have h2 := x.toInt_lt
  have e1 : (x.toInt64 - a).toInt = x.toInt - a.toInt := by
    rw [Jvm.Kit.i64_sub (by rw [Jvm.Kit.i64_of_i32]; omega) (by rw [Jvm.Kit.i64_of_i32]; omega), Jvm.Kit.i64_of_i32]
  rw [Jvm.Kit.i64_sub (by rw [e1]; omega) (by rw [e1]; omega), e1]
theorem pl_m1 {k : Nat} (h : k < 9) : (-1 : Int32) ≠ nI k := by
  have h0 : ∀ k, k < 9 → (-1 : Int32) ≠ nI k := by decide +kernel
  exact h0 k h
theorem pl_cl {a : Nat} (ha : a < 9) : (nI a).toNatClampNeg = a := nI_clamp (by omega)
def pl_R (n row : Nat) (ro : Nat → Int32) : Prop := (∀ c, c < n → ro c = -1 ∨ ∃ r, r < row ∧ ro c = nI r) ∧ (∀ r, r < row → ∃ c, c < n ∧ ro c = nI r) ∧ ∀ c c' r, c < n → c' < n → r < row → ro c = nI r → ro c' = nI r → c = c'
def pl_V (n row : Nat) (co : Nat → Int32) (u v : Nat → Int64) (ro : Nat → Int32) : Prop :=
  (∀ c, c < n → (v c).toInt ≤ 0 ∧ (ro c = -1 → (v c).toInt = 0)) ∧ (∀ r c, r < row → c < n → 0 ≤ pl_ov co u v r c) ∧ (∀ c r, c < n → r < row → ro c = nI r → pl_ov co u v r c = 0) ∧ ∀ r, row < r → r < 8 → u r = 0
/-- rows ahead of row have their columns -/
def pl_P (n row : Nat) (co : Nat → Int32) (u v : Nat → Int64) (ro : Nat → Int32) : Prop := pl_R n row ro ∧ pl_V n row co u v ro ∧ (row < 8 → u row = 0)
theorem pl_P0 {n : Nat} {co : Nat → Int32} {u v : Nat → Int64} {ro : Nat → Int32} (hn : n ≤ 8) (hu : ∀ r, r < 8 → u r = 0) (hv : ∀ c, c < 9 → v c = 0) (hro : ∀ c, c < 9 → ro c = -1) : pl_P n 0 co u v ro := by
  refine ⟨⟨fun c hc => Or.inl (hro c (by omega)), fun r hr => by omega, fun c c' r _ _ hr => by omega⟩, ⟨fun c hc => ?_, fun r c hr => by omega, fun c r _ hr => by omega, fun r _ hr => hu r hr⟩, fun h => hu 0 h⟩
  rw [hv c (by omega)]
  exact ⟨by decide, fun _ => by decide⟩
theorem pl_free {n row : Nat} {ro : Nat → Int32} (hn : n ≤ 8) (hrow : row < n) (h : pl_R n row ro) : ∃ c, c < n ∧ ro c = -1 := by
  by_cases e : ∃ c, c < n ∧ ro c = -1
  · exact e
  · exfalso
    have hA : ∀ c, c < n → ∃ r, r < row ∧ ro c = nI r := fun c hc => (h.1 c hc).resolve_left (fun z => e ⟨c, hc, z⟩)
    have hg : pd_giv n (fun c => (ro c).toNatClampNeg) := by
      refine ⟨fun c hc => ?_, fun c c' hc hc' e1 => ?_⟩
      · obtain ⟨r, hr, e1⟩ := hA c hc
        show (ro c).toNatClampNeg < n
        rw [e1, pl_cl (by omega)]
        omega
      · obtain ⟨r, hr, e2⟩ := hA c hc
        obtain ⟨r', hr', e2'⟩ := hA c' hc'
        have e1 : (ro c).toNatClampNeg = (ro c').toNatClampNeg := e1
        rw [e2, e2', pl_cl (by omega), pl_cl (by omega)] at e1
        subst e1
        exact h.2.2 c c' r hc hc' hr e2 e2'
    obtain ⟨c, hc, e1⟩ := pd_surj n _ hg row hrow
    have e1 : (ro c).toNatClampNeg = row := e1
    obtain ⟨r, hr, e2⟩ := hA c hc
    rw [e2, pl_cl (by omega)] at e1
    omega
theorem pl_bd {n row : Nat} {co : Nat → Int32} {u v : Nat → Int64} {ro : Nat → Int32} (hR : pl_R n row ro) (hV : pl_V n row co u v ro) (hf : ∃ c, c < n ∧ (v c).toInt = 0) : (∀ r, r < row → -2147483648 ≤ (u r).toInt ∧ (u r).toInt ≤ 2147483648) ∧ ∀ c, c < n → -4294967296 ≤ (v c).toInt ∧ (v c).toInt ≤ 0 := by
  obtain ⟨c0, hc0, e0⟩ := hf
  have hu : ∀ r, r < row → -2147483648 ≤ (u r).toInt ∧ (u r).toInt ≤ 2147483648 := by
    intro r hr
    have h1 := hV.2.1 r c0 hr hc0
    have h2 := pl_C co (8 * r + c0)
    obtain ⟨c, hc, ec⟩ := hR.2.1 r hr
    have h3 := hV.2.2.1 c r hc hr ec
    have h4 := pl_C co (8 * r + c)
    have h5 := (hV.1 c hc).1
    unfold pl_ov at h1 h3
    omega
  refine ⟨hu, fun c hc => ?_⟩
  have h5 := hV.1 c hc
  rcases hR.1 c hc with q | ⟨r, hr, ec⟩
  · have := h5.2 q
    omega
  · have h3 := hV.2.2.1 c r hc hr ec
    have h4 := pl_C co (8 * r + c)
    have h6 := hu r hr
    unfold pl_ov at h3
    omega
def pl_D (n row a : Nat) (dn ro : Nat → Int32) : Prop := (a = 8 ∨ a < n) ∧ dn a = 0 ∧ ∀ c, c ≤ 8 → dn c ≠ 0 → c = 8 ∨ (c < n ∧ ∃ r, r < row ∧ ro c = nI r)
def pl_1 (row a : Nat) (u wy : Nat → Int64) (dn : Nat → Int32) : Prop := a = 8 ∧ (∀ c, c ≤ 8 → dn c = 0) ∧ (∀ c, c < 8 → wy c = 9223372036854775807) ∧ u row = 0
def pl_w (row : Nat) (ov : Nat → Nat → Int) (ro : Nat → Int32) (wy : Nat → Int64) (be dn : Nat → Int32) (c : Nat) : Prop := (∀ d r, d ≤ 8 → r ≤ row → dn d ≠ 0 → ro d = nI r → (wy c).toInt ≤ ov r c) ∧ ∃ d r, d ≤ 8 ∧ r ≤ row ∧ be c = nI d ∧ dn d ≠ 0 ∧ ro d = nI r ∧ ov r c = (wy c).toInt
def pl_ch (n row : Nat) (ov : Nat → Nat → Int) (ro be dn : Nat → Int32) (rk : Nat → Nat) : Prop := ∀ d, d < n → dn d ≠ 0 → ∃ d' r, d' ≤ 8 ∧ r ≤ row ∧ be d = nI d' ∧ dn d' ≠ 0 ∧ ro d' = nI r ∧ ov r d = 0 ∧ rk d' < rk d
def pl_2 (n row a : Nat) (co : Nat → Int32) (u v : Nat → Int64) (ro : Nat → Int32) (wy : Nat → Int64) (be dn : Nat → Int32) (rk : Nat → Nat) (tm : Nat) : Prop :=
  dn 8 ≠ 0 ∧ a < n ∧ -2147483648 ≤ (u row).toInt ∧ (∀ c, c < n → 0 ≤ pl_ov co u v row c) ∧ (wy a).toInt = 0 ∧ (∀ c, c < n → dn c = 0 → pl_w row (pl_ov co u v) ro wy be dn c) ∧ pl_ch n row (pl_ov co u v) ro be dn rk ∧ ∀ d, d ≤ 8 → dn d ≠ 0 → rk d < tm
def pl_L (n row a : Nat) (co : Nat → Int32) (u v : Nat → Int64) (ro : Nat → Int32) (wy : Nat → Int64) (be dn : Nat → Int32) : Prop := pl_V n row co u v ro ∧ pl_D n row a dn ro ∧ (pl_1 row a u wy dn ∨ ∃ rk tm, pl_2 n row a co u v ro wy be dn rk tm)
theorem pl_bdL {n row a : Nat} {co : Nat → Int32} {u v : Nat → Int64} {ro : Nat → Int32} {wy : Nat → Int64} {be dn : Nat → Int32} (hn : n ≤ 8) (hrow : row < n) (hR : pl_R n row ro) (hL : pl_L n row a co u v ro wy be dn) : (∀ r, r ≤ row → -2147483648 ≤ (u r).toInt ∧ (u r).toInt ≤ 2147483648) ∧ ∀ c, c < n → -4294967296 ≤ (v c).toInt ∧ (v c).toInt ≤ 0 := by
  obtain ⟨hV, hD, hph⟩ := hL
  obtain ⟨c0, hc0, e0⟩ := pl_free hn hrow hR
  have hv0 := (hV.1 c0 hc0).2 e0
  obtain ⟨h1, h2⟩ := pl_bd hR hV ⟨c0, hc0, hv0⟩
  refine ⟨fun r hr => ?_, h2⟩
  rcases Nat.lt_or_eq_of_le hr with q | q
  · exact h1 r q
  · subst q
    rcases hph with h | ⟨rk, tm, h⟩
    · rw [h.2.2.2]
      exact ⟨by decide, by decide⟩
    · have h3 := h.2.2.1
      have h4 := h.2.2.2.1 c0 hc0
      have h5 := pl_C co (8 * r + c0)
      unfold pl_ov at h4
      omega
/-- the done columns' rows, with a among them -/
theorem pl_done {n row a r0 : Nat} {dn dn1 ro : Nat → Int32} (hn : n ≤ 8) (hrow : row < n) (hR : pl_R n row ro) (h8 : ro 8 = nI row) (hD : pl_D n row a dn ro) (har : ro a = nI r0) (hr0 : r0 ≤ row) (h1n : ∀ c, c ≠ a → dn1 c = dn c) : ∀ d, d ≤ 8 → dn1 d ≠ 0 → (d = 8 ∧ ro d = nI row) ∨ (d < n ∧ ∃ r, r < row ∧ ro d = nI r) := by
  intro d hd h
  have h8' : d = 8 → (d = 8 ∧ ro d = nI row) := fun e => by
    subst e
    exact ⟨rfl, h8⟩
  by_cases e : d = a
  · rcases hD.1 with q | q
    · exact Or.inl (h8' (by omega))
    · subst e
      rcases hR.1 d q with z | z
      · rw [har] at z
        exact absurd z.symm (pl_m1 (by omega))
      · exact Or.inr ⟨q, z⟩
  · rw [h1n d e] at h
    rcases hD.2.2 d hd h with q | q
    · exact Or.inl (h8' q)
    · exact Or.inr q
theorem pl_dinj {n row : Nat} {dn1 ro : Nat → Int32} (hn : n ≤ 8) (hrow : row < n) (hR : pl_R n row ro) (hdn : ∀ d, d ≤ 8 → dn1 d ≠ 0 → (d = 8 ∧ ro d = nI row) ∨ (d < n ∧ ∃ r, r < row ∧ ro d = nI r)) {d d' r : Nat} (hd : d ≤ 8) (hd' : d' ≤ 8) (h : dn1 d ≠ 0) (h' : dn1 d' ≠ 0) (hr : r < 9) (e : ro d = nI r) (e' : ro d' = nI r) : d = d' := by
  rcases hdn d hd h with ⟨q1, q2⟩ | ⟨q1, x, hx, q2⟩
  · rcases hdn d' hd' h' with ⟨p1, p2⟩ | ⟨p1, y, hy, p2⟩
    · omega
    · rw [e] at q2
      rw [e'] at p2
      have a1 := fd_inj (n := 9) (by omega) hr (by omega) q2
      have a2 := fd_inj (n := 9) (by omega) hr (by omega) p2
      omega
  · rcases hdn d' hd' h' with ⟨p1, p2⟩ | ⟨p1, y, hy, p2⟩
    · rw [e] at q2
      rw [e'] at p2
      have a1 := fd_inj (n := 9) (by omega) hr (by omega) q2
      have a2 := fd_inj (n := 9) (by omega) hr (by omega) p2
      omega
    · rw [e] at q2
      have a1 := fd_inj (n := 9) (by omega) hr (by omega) q2
      exact hR.2.2 d d' r q1 p1 (by omega) e e'
/-- a column that is not done: a free one -/
theorem pl_und {n row : Nat} {dn1 ro : Nat → Int32} (hn : n ≤ 8) (hrow : row < n) (hR : pl_R n row ro) (hdn : ∀ d, d ≤ 8 → dn1 d ≠ 0 → (d = 8 ∧ ro d = nI row) ∨ (d < n ∧ ∃ r, r < row ∧ ro d = nI r)) : ∃ c, c < n ∧ dn1 c = 0 := by
  obtain ⟨c, hc, e⟩ := pl_free hn hrow hR
  refine ⟨c, hc, ?_⟩
  by_cases z : dn1 c = 0
  · exact z
  · rcases hdn c (by omega) z with ⟨q, -⟩ | ⟨-, r, hr, q⟩
    · omega
    · rw [e] at q
      exact absurd q (pl_m1 (by omega))
def pl_sc (a r0 : Nat) (ov : Nat → Nat → Int) (wy wy1 : Nat → Int64) (be be1 dn1 : Nat → Int32) (k : Nat) : Prop :=
  (∀ c, c < k → dn1 c = 0 → (ov r0 c < (wy c).toInt ∧ (wy1 c).toInt = ov r0 c ∧ be1 c = nI a) ∨ ((wy c).toInt ≤ ov r0 c ∧ wy1 c = wy c ∧ be1 c = be c)) ∧
  ∀ c, (k ≤ c ∨ dn1 c ≠ 0) → wy1 c = wy c ∧ be1 c = be c
def pl_ls (wy1 : Nat → Int64) (dn1 : Nat → Int32) (k : Nat) (x : Int32) : Prop :=
  (x = -1 ∧ ∀ c, c < k → dn1 c ≠ 0) ∨ ∃ l, l < k ∧ x = nI l ∧ dn1 l = 0 ∧ ∀ c, c < k → dn1 c = 0 → (wy1 l).toInt ≤ (wy1 c).toInt
theorem pl_sc0 {a r0 : Nat} {ov : Nat → Nat → Int} {wy : Nat → Int64} {be dn1 : Nat → Int32} : pl_sc a r0 ov wy wy be be dn1 0 ∧ pl_ls wy dn1 0 (-1) := ⟨⟨fun c hc => by omega, fun c _ => ⟨rfl, rfl⟩⟩, Or.inl ⟨rfl, fun c hc => by omega⟩⟩
theorem pl_sc_done {a r0 k : Nat} {ov : Nat → Nat → Int} {wy wy1 : Nat → Int64} {be be1 dn1 : Nat → Int32} {x : Int32} (h : pl_sc a r0 ov wy wy1 be be1 dn1 k) (hl : pl_ls wy1 dn1 k x) (hk : dn1 k ≠ 0) : pl_sc a r0 ov wy wy1 be be1 dn1 (k + 1) ∧ pl_ls wy1 dn1 (k + 1) x := by
  refine ⟨⟨fun c hc h0 => ?_, fun c hc => ?_⟩, ?_⟩
  · have : c ≠ k := fun e => by
      subst e
      exact hk h0
    exact h.1 c (by omega) h0
  · by_cases e : c = k
    · subst e
      exact h.2 c (Or.inl (Nat.le_refl _))
    · rcases hc with q | q
      · exact h.2 c (Or.inl (by omega))
      · exact h.2 c (Or.inr q)
  · rcases hl with ⟨q1, q2⟩ | ⟨l, q1, q2, q3, q4⟩
    · refine Or.inl ⟨q1, fun c hc => ?_⟩
      by_cases e : c = k
      · subst e
        exact hk
      · exact q2 c (by omega)
    · refine Or.inr ⟨l, by omega, q2, q3, fun c hc h0 => ?_⟩
      have : c ≠ k := fun e => by
        subst e
        exact hk h0
      exact q4 c (by omega) h0
/-- the column k looked at: way and before there as w and z, others as they were -/
theorem pl_sc_und {a r0 k : Nat} {ov : Nat → Nat → Int} {wy wy1 wy2 : Nat → Int64} {be be1 be2 dn1 : Nat → Int32} (h : pl_sc a r0 ov wy wy1 be be1 dn1 k) (hw : ∀ c, c ≠ k → wy2 c = wy1 c) (hb : ∀ c, c ≠ k → be2 c = be1 c) (hk : (ov r0 k < (wy1 k).toInt ∧ (wy2 k).toInt = ov r0 k ∧ be2 k = nI a) ∨ ((wy1 k).toInt ≤ ov r0 k ∧ wy2 k = wy1 k ∧ be2 k = be1 k)) (h0 : dn1 k = 0) : pl_sc a r0 ov wy wy2 be be2 dn1 (k + 1) := by
  obtain ⟨e1, e2⟩ := h.2 k (Or.inl (Nat.le_refl _))
  rw [e1, e2] at hk
  refine ⟨fun c hc h1 => ?_, fun c hc => ?_⟩
  · by_cases e : c = k
    · subst e
      exact hk
    · rw [hw c e, hb c e]
      exact h.1 c (by omega) h1
  · have e : c ≠ k := fun e => by
      subst e
      rcases hc with q | q
      · omega
      · exact q h0
    rw [hw c e, hb c e]
    rcases hc with q | q
    · exact h.2 c (Or.inl (by omega))
    · exact h.2 c (Or.inr q)
theorem pl_ls_und {k : Nat} {wy1 wy2 : Nat → Int64} {dn1 : Nat → Int32} {x y : Int32} (hw : ∀ c, c ≠ k → wy2 c = wy1 c) (hl : pl_ls wy1 dn1 k x) (h0 : dn1 k = 0) (hy : (y = nI k ∧ (x < 0 ∨ ∃ l, x = nI l ∧ l < k ∧ (wy2 k).toInt < (wy2 l).toInt)) ∨ (y = x ∧ ∃ l, x = nI l ∧ l < k ∧ (wy2 l).toInt ≤ (wy2 k).toInt)) (hk : k < 8) : pl_ls wy2 dn1 (k + 1) y := by
  have hnn : ∀ l, l < 8 → ¬ (nI l < 0) := by decide +kernel
  rcases hl with ⟨q1, q2⟩ | ⟨l, q1, q2, q3, q4⟩
  · rcases hy with ⟨y1, -⟩ | ⟨y1, l, y2, y3, -⟩
    · refine Or.inr ⟨k, by omega, y1, h0, fun c hc hc0 => ?_⟩
      by_cases e : c = k
      · subst e
        exact Int.le_refl _
      · exact absurd hc0 (q2 c (by omega))
    · rw [q1] at y2
      exact absurd y2 (pl_m1 (by omega))
  · have hwl : wy2 l = wy1 l := hw l (by omega)
    rcases hy with ⟨y1, y2⟩ | ⟨y1, l', y2, y3, y4⟩
    · refine Or.inr ⟨k, by omega, y1, h0, fun c hc hc0 => ?_⟩
      by_cases e : c = k
      · subst e
        exact Int.le_refl _
      · have h1 := q4 c (by omega) hc0
        rw [hw c e]
        rcases y2 with z | ⟨l', z1, z2, z3⟩
        · rw [q2] at z
          exact absurd z (hnn l (by omega))
        · rw [q2] at z1
          have := fd_inj (n := 9) (by omega) (by omega) (by omega) z1
          subst this
          rw [hwl] at z3
          omega
    · rw [q2] at y2
      have := fd_inj (n := 9) (by omega) (by omega) (by omega) y2
      subst this
      refine Or.inr ⟨l, by omega, by rw [y1, q2], q3, fun c hc hc0 => ?_⟩
      by_cases e : c = k
      · subst e
        exact y4
      · rw [hw c e, hwl]
        exact q4 c (by omega) hc0
def pl_up (n k : Nat) (dn1 ro : Nat → Int32) (b : Int64) (u u2 v v2 wy wy2 : Nat → Int64) : Prop :=
  (∀ c, wy2 c = if c < k ∧ c < n ∧ dn1 c = 0 then wy c - b else wy c) ∧ (∀ c, v2 c = if c < k ∧ dn1 c ≠ 0 then v c - b else v c) ∧
  ∀ r, r < 8 → ((∃ d, d < k ∧ dn1 d ≠ 0 ∧ ro d = nI r) → u2 r = u r + b) ∧ ((∀ d, d < k → dn1 d ≠ 0 → ro d ≠ nI r) → u2 r = u r)
theorem pl_up0 {n : Nat} {dn1 ro : Nat → Int32} {b : Int64} {u v wy : Nat → Int64} : pl_up n 0 dn1 ro b u u v v wy wy := by
  refine ⟨fun c => ?_, fun c => ?_, fun r _ => ⟨fun ⟨d, hd, _⟩ => by omega, fun _ => rfl⟩⟩
  · rw [if_neg (fun z => by omega)]
  · rw [if_neg (fun z => by omega)]
theorem pl_up_und {n k : Nat} {dn1 ro : Nat → Int32} {b : Int64} {u u2 v v2 wy wy2 : Nat → Int64} (h : pl_up n k dn1 ro b u u2 v v2 wy wy2) (h0 : dn1 k = 0) (hk : k < n) : pl_up n (k + 1) dn1 ro b u u2 v v2 wy (vp_updL wy2 k (wy2 k - b)) := by
  refine ⟨fun c => ?_, fun c => ?_, fun r hr => ⟨fun ⟨d, hd, q1, q2⟩ => ?_, fun q => (h.2.2 r hr).2 (fun d hd => q d (by omega))⟩⟩
  · by_cases e : c = k
    · subst e
      rw [pk_uLs, if_pos ⟨by omega, hk, h0⟩, h.1 c, if_neg (fun z => by omega)]
    · rw [pk_uLn e, h.1 c]
      by_cases z : c < k ∧ c < n ∧ dn1 c = 0
      · rw [if_pos z, if_pos ⟨by omega, z.2⟩]
      · rw [if_neg z, if_neg (fun y => z ⟨by omega, y.2⟩)]
  · rw [h.2.1 c]
    by_cases e : c = k
    · subst e
      rw [if_neg (fun z => by omega), if_neg (fun z => z.2 h0)]
    · by_cases z : c < k ∧ dn1 c ≠ 0
      · rw [if_pos z, if_pos ⟨by omega, z.2⟩]
      · rw [if_neg z, if_neg (fun y => z ⟨by omega, y.2⟩)]
  · have : d ≠ k := fun e => by
      subst e
      exact q1 h0
    exact (h.2.2 r hr).1 ⟨d, by omega, q1, q2⟩
theorem pl_up_skip {n k : Nat} {dn1 ro : Nat → Int32} {b : Int64} {u u2 v v2 wy wy2 : Nat → Int64} (h : pl_up n k dn1 ro b u u2 v v2 wy wy2) (h0 : dn1 k = 0) (hk : n ≤ k) : pl_up n (k + 1) dn1 ro b u u2 v v2 wy wy2 := by
  refine ⟨fun c => ?_, fun c => ?_, fun r hr => ⟨fun ⟨d, hd, q1, q2⟩ => ?_, fun q => (h.2.2 r hr).2 (fun d hd => q d (by omega))⟩⟩
  · rw [h.1 c]
    by_cases z : c < k ∧ c < n ∧ dn1 c = 0
    · rw [if_pos z, if_pos ⟨by omega, z.2⟩]
    · rw [if_neg z, if_neg (fun y => z ⟨by omega, y.2⟩)]
  · rw [h.2.1 c]
    by_cases e : c = k
    · subst e
      rw [if_neg (fun z => by omega), if_neg (fun z => z.2 h0)]
    · by_cases z : c < k ∧ dn1 c ≠ 0
      · rw [if_pos z, if_pos ⟨by omega, z.2⟩]
      · rw [if_neg z, if_neg (fun y => z ⟨by omega, y.2⟩)]
  · have : d ≠ k := fun e => by
      subst e
      exact q1 h0
    exact (h.2.2 r hr).1 ⟨d, by omega, q1, q2⟩
theorem pl_up_done {n k x : Nat} {dn1 ro : Nat → Int32} {b : Int64} {u u2 v v2 wy wy2 : Nat → Int64} (h : pl_up n k dn1 ro b u u2 v v2 wy wy2) (h0 : dn1 k ≠ 0) (hx : x < 8) (hro : ro k = nI x) (hno : ∀ d, d < k → dn1 d ≠ 0 → ro d ≠ nI x) : pl_up n (k + 1) dn1 ro b u (vp_updL u2 x (u2 x + b)) v (vp_updL v2 k (v2 k - b)) wy wy2 := by
  refine ⟨fun c => ?_, fun c => ?_, fun r hr => ⟨fun ⟨d, hd, q1, q2⟩ => ?_, fun q => ?_⟩⟩
  · rw [h.1 c]
    by_cases e : c = k
    · subst e
      rw [if_neg (fun z => by omega), if_neg (fun z => h0 z.2.2)]
    · by_cases z : c < k ∧ c < n ∧ dn1 c = 0
      · rw [if_pos z, if_pos ⟨by omega, z.2⟩]
      · rw [if_neg z, if_neg (fun y => z ⟨by omega, y.2⟩)]
  · by_cases e : c = k
    · subst e
      rw [pk_uLs, if_pos ⟨by omega, h0⟩, h.2.1 c, if_neg (fun z => by omega)]
    · rw [pk_uLn e, h.2.1 c]
      by_cases z : c < k ∧ dn1 c ≠ 0
      · rw [if_pos z, if_pos ⟨by omega, z.2⟩]
      · rw [if_neg z, if_neg (fun y => z ⟨by omega, y.2⟩)]
  · by_cases e : r = x
    · subst e
      rw [pk_uLs, (h.2.2 r hr).2 hno]
    · have : d ≠ k := fun w => by
        subst w
        rw [hro] at q2
        exact e (fd_inj (n := 9) (by omega) (by omega) (by omega) q2).symm
      rw [pk_uLn e]
      exact (h.2.2 r hr).1 ⟨d, by omega, q1, q2⟩
  · have e : r ≠ x := fun w => by
      subst w
      exact q k (by omega) h0 hro
    rw [pk_uLn e]
    exact (h.2.2 r hr).2 (fun d hd => q d (by omega))
end
section
/-! place, plainly: one round of the search, and the change along the way -/
theorem pl_scanned {n row a r0 : Nat} {co : Nat → Int32} {u v : Nat → Int64} {ro : Nat → Int32} {wy wy1 : Nat → Int64} {be be1 dn dn1 : Nat → Int32} (hn : n ≤ 8) (hrow : row < n) (hov : ∀ r c, r ≤ row → c < n → -17179869184 ≤ pl_ov co u v r c ∧ pl_ov co u v r c ≤ 17179869184) (hL : pl_L n row a co u v ro wy be dn) (hr0 : r0 ≤ row) (har : ro a = nI r0) (h1a : dn1 a ≠ 0) (h1n : ∀ c, c ≠ a → dn1 c = dn c) (hsc : pl_sc a r0 (pl_ov co u v) wy wy1 be be1 dn1 n) : ∀ c, c < n → dn1 c = 0 → pl_w row (pl_ov co u v) ro wy1 be1 dn1 c := by
  intro c hc hc0
  obtain ⟨hV, hD, hph⟩ := hL
  have ha8 : a ≤ 8 := by
    rcases hD.1 with q | q <;> omega
  have hca : c ≠ a := fun e => by
    subst e
    exact h1a hc0
  have hd0 : dn c = 0 := by rw [← h1n c hca]; exact hc0
  have hra : ∀ d r, r ≤ row → d = a → ro d = nI r → r = r0 := fun d r hr e e2 => by
    subst e
    rw [har] at e2
    exact (fd_inj (n := 9) (by omega) (by omega) (by omega) e2).symm
  rcases hph with h1 | ⟨rk, tm, h2⟩
  · have hw : (wy c).toInt = 9223372036854775807 := by
      rw [h1.2.2.1 c (by omega)]
      decide
    have hb := hov r0 c hr0 hc
    rcases hsc.1 c hc hc0 with ⟨q1, q2, q3⟩ | ⟨q1, q2, q3⟩
    · refine ⟨fun d r hd hr hdd hdr => ?_, a, r0, ha8, hr0, q3, h1a, har, q2.symm⟩
      by_cases e : d = a
      · rw [hra d r hr e hdr, q2]
        exact Int.le_refl _
      · rw [h1n d e] at hdd
        exact absurd (h1.2.1 d hd) hdd
    · omega
  · obtain ⟨lo, d0, x, g1, g2, g3, g4, g5, g6⟩ := h2.2.2.2.2.2.1 c hc hd0
    rcases hsc.1 c hc hc0 with ⟨q1, q2, q3⟩ | ⟨q1, q2, q3⟩
    · refine ⟨fun d r hd hr hdd hdr => ?_, a, r0, ha8, hr0, q3, h1a, har, q2.symm⟩
      by_cases e : d = a
      · rw [hra d r hr e hdr, q2]
        exact Int.le_refl _
      · rw [h1n d e] at hdd
        have := lo d r hd hr hdd hdr
        omega
    · have hda : d0 ≠ a := fun e => by
        subst e
        exact g4 hD.2.1
      refine ⟨fun d r hd hr hdd hdr => ?_, d0, x, g1, g2, by rw [q3]; exact g3, by rw [h1n d0 hda]; exact g4, g5, by rw [q2]; exact g6⟩
      rw [q2]
      by_cases e : d = a
      · rw [hra d r hr e hdr]
        exact q1
      · rw [h1n d e] at hdd
        exact lo d r hd hr hdd hdr
theorem pl_step {n row a r0 l : Nat} {co : Nat → Int32} {u v u2 v2 : Nat → Int64} {ro : Nat → Int32} {wy wy1 wy2 : Nat → Int64} {be be1 dn dn1 : Nat → Int32} (hn : n ≤ 8) (hrow : row < n) (hR : pl_R n row ro) (h8 : ro 8 = nI row) (hL : pl_L n row a co u v ro wy be dn) (hr0 : r0 ≤ row) (har : ro a = nI r0) (h1a : dn1 a ≠ 0) (h1n : ∀ c, c ≠ a → dn1 c = dn c) (hsc : pl_sc a r0 (pl_ov co u v) wy wy1 be be1 dn1 n) (hl : l < n) (hl0 : dn1 l = 0) (hmin : ∀ c, c < n → dn1 c = 0 → (wy1 l).toInt ≤ (wy1 c).toInt) (hup : pl_up n 9 dn1 ro (wy1 l) u u2 v v2 wy1 wy2) : pl_L n row l co u2 v2 ro wy2 be1 dn1 := by
  obtain ⟨hbu, hbv⟩ := pl_bdL hn hrow hR hL
  have hov : ∀ r c, r ≤ row → c < n → -17179869184 ≤ pl_ov co u v r c ∧ pl_ov co u v r c ≤ 17179869184 := by
    intro r c hr hc
    have h1 := hbu r hr
    have h2 := hbv c hc
    have h3 := pl_C co (8 * r + c)
    unfold pl_ov
    omega
  have hW := pl_scanned hn hrow hov hL hr0 har h1a h1n hsc
  obtain ⟨hV, hD, hph⟩ := hL
  have hdn := pl_done hn hrow hR h8 hD har hr0 h1n
  -- the step b
  obtain ⟨b, hb⟩ : ∃ b : Int, b = (wy1 l).toInt := ⟨_, rfl⟩
  rw [← hb] at hmin
  obtain ⟨-, dl, rl, l1, l2, l3, l4, l5, l6⟩ := hW l hl hl0
  rw [← hb] at l6
  have hbb := hov rl l l2 hl
  rw [l6] at hbb
  have hlow : ∀ d r c, d ≤ 8 → r ≤ row → dn1 d ≠ 0 → ro d = nI r → c < n → dn1 c = 0 → b ≤ pl_ov co u v r c := fun d r c hd hr hdd hdr hc hc0 => Int.le_trans (hmin c hc hc0) ((hW c hc hc0).1 d r hd hr hdd hdr)
  -- 0 ≤ b, or nothing below n is done
  have hz : 0 ≤ b ∨ ∀ c, c < n → dn1 c = 0 := by
    rcases hph with h1 | ⟨rk, tm, h2⟩
    · refine Or.inr (fun c hc => ?_)
      rw [h1n c (by have := h1.1; omega)]
      exact h1.2.1 c (by omega)
    · left
      rw [← l6]
      rcases Nat.lt_or_eq_of_le l2 with q | q
      · exact hV.2.1 rl l q hl
      · subst q
        exact h2.2.2.2.1 l hl
  have h8d : dn1 8 ≠ 0 := by
    rcases hph with h1 | ⟨rk, tm, h2⟩
    · rw [← h1.1]
      exact h1a
    · by_cases e : 8 = a
      · rw [e]
        exact h1a
      · rw [h1n 8 e]
        exact h2.1
  have hrf : ∀ c, c < n → dn1 c ≠ 0 → 0 ≤ pl_ov co u v row c := by
    intro c hc h
    rcases hph with h1 | ⟨rk, tm, h2⟩
    · rw [h1n c (by have := h1.1; omega)] at h
      exact absurd (h1.2.1 c (by omega)) h
    · exact h2.2.2.2.1 c hc
  have hru : -2147483648 ≤ (u row).toInt + b := by
    rcases hph with h1 | ⟨rk, tm, h2⟩
    · have e1 : rl = row := by
        by_cases e : dl = a
        · subst e
          have h3 : ro dl = nI row := by
            rw [h1.1]
            exact h8
          rw [h3] at l5
          exact (fd_inj (n := 9) (by omega) (by omega) (by omega) l5).symm
        · rw [h1n dl e] at l4
          exact absurd (h1.2.1 dl l1) l4
      subst e1
      have h3 := pl_C co (8 * rl + l)
      have h4 := hbv l hl
      unfold pl_ov at l6
      omega
    · have h3 := h2.2.2.1
      rcases hz with q | q
      · omega
      · exfalso
        exact h1a (q a h2.2.1)
  -- what the loops did, in whole numbers
  have cw : ∀ c, c < n → dn1 c = 0 → (wy2 c).toInt = (wy1 c).toInt - b := by
    intro c hc h0
    obtain ⟨-, d, r, w1, w2, w3, w4, w5, w6⟩ := hW c hc h0
    have h1 := hov r c w2 hc
    rw [w6] at h1
    rw [hup.1 c, if_pos ⟨by omega, hc, h0⟩, Jvm.Kit.i64_sub (by rw [← hb]; omega) (by rw [← hb]; omega), hb]
  have cv1 : ∀ c, c < n → dn1 c ≠ 0 → (v2 c).toInt = (v c).toInt - b := by
    intro c hc h0
    have h1 := hbv c hc
    rw [hup.2.1 c, if_pos ⟨by omega, h0⟩, Jvm.Kit.i64_sub (by rw [← hb]; omega) (by rw [← hb]; omega), hb]
  have cv0 : ∀ c, c < n → dn1 c = 0 → v2 c = v c := by
    intro c hc h0
    rw [hup.2.1 c, if_neg (fun z => z.2 h0)]
  have cu1 : ∀ d r, d ≤ 8 → r ≤ row → dn1 d ≠ 0 → ro d = nI r → (u2 r).toInt = (u r).toInt + b := by
    intro d r hd hr hdd hdr
    have h1 := hbu r hr
    rw [(hup.2.2 r (by omega)).1 ⟨d, by omega, hdd, hdr⟩, Jvm.Kit.i64_add (by rw [← hb]; omega) (by rw [← hb]; omega), hb]
  have cu0 : ∀ r, r < 8 → (∀ d, d ≤ 8 → dn1 d ≠ 0 → ro d ≠ nI r) → u2 r = u r := fun r hr q => (hup.2.2 r hr).2 (fun d hd => q d (by omega))
  have o_dd : ∀ d r c, d ≤ 8 → r ≤ row → dn1 d ≠ 0 → ro d = nI r → c < n → dn1 c ≠ 0 → pl_ov co u2 v2 r c = pl_ov co u v r c := by
    intro d r c hd hr hdd hdr hc h0
    have h1 := cu1 d r hd hr hdd hdr
    have h2 := cv1 c hc h0
    unfold pl_ov
    omega
  have o_du : ∀ d r c, d ≤ 8 → r ≤ row → dn1 d ≠ 0 → ro d = nI r → c < n → dn1 c = 0 → pl_ov co u2 v2 r c = pl_ov co u v r c - b := by
    intro d r c hd hr hdd hdr hc h0
    have h1 := cu1 d r hd hr hdd hdr
    have h2 := cv0 c hc h0
    unfold pl_ov
    rw [h2]
    omega
  refine ⟨⟨fun c hc => ?_, fun r c hr hc => ?_, fun c r hc hr e => ?_, fun r hr hr8 => ?_⟩, ⟨Or.inr hl, hl0, fun c hc h => ?_⟩, Or.inr ?_⟩
  · have h1 := hV.1 c hc
    by_cases h0 : dn1 c = 0
    · rw [cv0 c hc h0]
      exact h1
    · have h2 := cv1 c hc h0
      rcases hz with q | q
      · refine ⟨by omega, fun e => ?_⟩
        rcases hdn c (by omega) h0 with ⟨w, -⟩ | ⟨-, r, hr, w⟩
        · omega
        · rw [e] at w
          exact absurd w (pl_m1 (by omega))
      · exact absurd (q c hc) h0
  · have h1 := hV.2.1 r c hr hc
    by_cases hdr : ∃ d, d ≤ 8 ∧ dn1 d ≠ 0 ∧ ro d = nI r
    · obtain ⟨d, d1, d2, d3⟩ := hdr
      by_cases h0 : dn1 c = 0
      · rw [o_du d r c d1 (by omega) d2 d3 hc h0]
        have := hlow d r c d1 (by omega) d2 d3 hc h0
        omega
      · rw [o_dd d r c d1 (by omega) d2 d3 hc h0]
        exact h1
    · have h2 := cu0 r (by omega) (fun d d1 d2 d3 => hdr ⟨d, d1, d2, d3⟩)
      by_cases h0 : dn1 c = 0
      · have h3 := cv0 c hc h0
        unfold pl_ov at h1 ⊢
        rw [h2, h3]
        exact h1
      · have h3 := cv1 c hc h0
        rcases hz with q | q
        · unfold pl_ov at h1 ⊢
          rw [h2]
          omega
        · exact absurd (q c hc) h0
  · have h1 := hV.2.2.1 c r hc hr e
    by_cases h0 : dn1 c = 0
    · have h2 := cu0 r (by omega) (fun d d1 d2 d3 => by
        rcases hdn d d1 d2 with ⟨w1, w2⟩ | ⟨w1, x, hx, w2⟩
        · rw [d3] at w2
          have := fd_inj (n := 9) (by omega) (by omega) (by omega) w2
          omega
        · have := hR.2.2 d c r w1 hc hr d3 e
          subst this
          exact d2 h0)
      have h3 := cv0 c hc h0
      unfold pl_ov at h1 ⊢
      rw [h2, h3]
      exact h1
    · rw [o_dd c r c (by omega) (by omega) h0 e hc h0]
      exact h1
  · rw [cu0 r hr8 (fun d d1 d2 d3 => by
      rcases hdn d d1 d2 with ⟨w1, w2⟩ | ⟨w1, x, hx, w2⟩
      · rw [d3] at w2
        have := fd_inj (n := 9) (by omega) (by omega) (by omega) w2
        omega
      · rw [d3] at w2
        have := fd_inj (n := 9) (by omega) (by omega) (by omega) w2
        omega)]
    exact hV.2.2.2 r hr hr8
  · rcases hdn c hc h with ⟨w, -⟩ | w
    · exact Or.inl w
    · exact Or.inr w
  · have hwn : ∀ c, c < n → dn1 c = 0 → pl_w row (pl_ov co u2 v2) ro wy2 be1 dn1 c := by
      intro c hc h0
      obtain ⟨w0, d, r, w1, w2, w3, w4, w5, w6⟩ := hW c hc h0
      refine ⟨fun d' r' hd' hr' hdd' hdr' => ?_, d, r, w1, w2, w3, w4, w5, ?_⟩
      · rw [o_du d' r' c hd' hr' hdd' hdr' hc h0, cw c hc h0]
        have := w0 d' r' hd' hr' hdd' hdr'
        omega
      · rw [o_du d r c w1 w2 w4 w5 hc h0, cw c hc h0]
        omega
    have hrow2 : ∀ c, c < n → 0 ≤ pl_ov co u2 v2 row c := by
      intro c hc
      by_cases h0 : dn1 c = 0
      · rw [o_du 8 row c (by omega) (by omega) h8d h8 hc h0]
        have := hlow 8 row c (by omega) (by omega) h8d h8 hc h0
        omega
      · rw [o_dd 8 row c (by omega) (by omega) h8d h8 hc h0]
        exact hrf c hc h0
    have hu2 : -2147483648 ≤ (u2 row).toInt := by
      rw [cu1 8 row (by omega) (by omega) h8d h8]
      exact hru
    have hwl : (wy2 l).toInt = 0 := by
      rw [cw l hl hl0]
      omega
    rcases hph with h1 | ⟨rk, tm, h2⟩
    · refine ⟨fun _ => 0, 1, h8d, hl, hu2, hrow2, hwl, hwn, fun d hd h => ?_, fun d _ _ => by show 0 < 1; omega⟩
      rw [h1n d (by have := h1.1; omega)] at h
      exact absurd (h1.2.1 d (by omega)) h
    · obtain ⟨m1, m2, m3, m4, m5, m6, m7, m8⟩ := h2
      refine ⟨fun d => if d = a then tm else rk d, tm + 1, h8d, hl, hu2, hrow2, hwl, hwn, fun d hd h => ?_, fun d hd h => ?_⟩
      · have hbe : be1 d = be d := (hsc.2 d (Or.inr h)).2
        by_cases e : d = a
        · subst e
          obtain ⟨-, d', r, w1, w2, w3, w4, w5, w6⟩ := m6 d hd hD.2.1
          have hne : d' ≠ d := fun z => by
            subst z
            exact w4 hD.2.1
          have hd1 : dn1 d' ≠ 0 := by
            rw [h1n d' hne]
            exact w4
          refine ⟨d', r, w1, w2, by rw [hbe]; exact w3, hd1, w5, ?_, ?_⟩
          · rw [o_dd d' r d w1 w2 hd1 w5 hd h, w6]
            exact m5
          · show (if d' = d then tm else rk d') < (if d = d then tm else rk d)
            rw [if_neg hne, if_pos rfl]
            exact m8 d' w1 w4
        · have h' := h
          rw [h1n d e] at h'
          obtain ⟨d', r, w1, w2, w3, w4, w5, w6, w7⟩ := m7 d hd h'
          have hne : d' ≠ a := fun z => by
            subst z
            exact w4 hD.2.1
          have hd1 : dn1 d' ≠ 0 := by
            rw [h1n d' hne]
            exact w4
          refine ⟨d', r, w1, w2, by rw [hbe]; exact w3, hd1, w5, ?_, ?_⟩
          · rw [o_dd d' r d w1 w2 hd1 w5 hd h]
            exact w6
          · show (if d' = a then tm else rk d') < (if d = a then tm else rk d)
            rw [if_neg hne, if_neg e]
            exact w7
      · show (if d = a then tm else rk d) < tm + 1
        by_cases e : d = a
        · rw [if_pos e]
          omega
        · rw [if_neg e]
          rw [h1n d e] at h
          have := m8 d hd h
          omega
/-- the change along the way: a is the column without a row -/
def pl_G (n row : Nat) (ov : Nat → Nat → Int) (v : Nat → Int64) (be dn : Nat → Int32) (rk : Nat → Nat) (ro : Nat → Int32) (a : Nat) : Prop :=
  (a = 8 ∨ (a < n ∧ dn a ≠ 0)) ∧ (∀ c, c < n → c ≠ a → (ro c = -1 ∧ (v c).toInt = 0) ∨ ∃ r, r ≤ row ∧ ro c = nI r ∧ ov r c = 0) ∧
  (∀ r, r ≤ row → ∃ c, (c < n ∨ c = 8) ∧ c ≠ a ∧ ro c = nI r) ∧
  (∀ c c' r, (c < n ∨ c = 8) → (c' < n ∨ c' = 8) → c ≠ a → c' ≠ a → r ≤ row → ro c = nI r → ro c' = nI r → c = c') ∧
  (∀ d, d < n → dn d ≠ 0 → rk d ≤ rk a → ∃ d' r, (d' = 8 ∨ (d' < n ∧ dn d' ≠ 0)) ∧ r ≤ row ∧ be d = nI d' ∧ ro d' = nI r ∧ ov r d = 0 ∧ rk d' < rk d)
theorem pl_G0 {n row a : Nat} {co : Nat → Int32} {u v : Nat → Int64} {ro : Nat → Int32} {wy : Nat → Int64} {be dn : Nat → Int32} (hn : n ≤ 8) (hrow : row < n) (hR : pl_R n row ro) (h8 : ro 8 = nI row) (hL : pl_L n row a co u v ro wy be dn) (har : ro a = -1) : (∀ c, c < n → 0 ≤ pl_ov co u v row c) ∧ ∃ (dn1 : Nat → Int32) (rk : Nat → Nat), pl_G n row (pl_ov co u v) v be dn1 rk ro a := by
  obtain ⟨hV, hD, hph⟩ := hL
  have ha : a < n := by
    rcases hD.1 with q | q
    · rw [q, h8] at har
      exact absurd har.symm (pl_m1 (by omega))
    · exact q
  rcases hph with h1 | ⟨rk, tm, m1, m2, m3, m4, m5, m6, m7, m8⟩
  · exact absurd h1.1 (by omega)
  refine ⟨m4, upd dn a 1, fun d => if d = a then tm else rk d, Or.inr ⟨ha, fd_u1⟩, fun c hc hca => ?_, fun r hr => ?_, fun c c' r hc hc' hca hca' hr e e' => ?_, fun d hd hdd hdk => ?_⟩
  · rcases hR.1 c hc with q | ⟨r, hr, q⟩
    · exact Or.inl ⟨q, (hV.1 c hc).2 q⟩
    · exact Or.inr ⟨r, by omega, q, hV.2.2.1 c r hc hr q⟩
  · rcases Nat.lt_or_eq_of_le hr with q | q
    · obtain ⟨c, hc, e⟩ := hR.2.1 r q
      refine ⟨c, Or.inl hc, fun z => ?_, e⟩
      rw [z, har] at e
      exact absurd e (pl_m1 (by omega))
    · subst q
      exact ⟨8, Or.inr rfl, by omega, h8⟩
  · rcases hc with q | q
    · rcases hc' with q' | q'
      · rcases Nat.lt_or_eq_of_le hr with w | w
        · exact hR.2.2 c c' r q q' w e e'
        · exfalso
          subst w
          rcases hR.1 c q with z | ⟨x, hx, z⟩
          · rw [e] at z
            exact absurd z.symm (pl_m1 (by omega))
          · rw [e] at z
            have := fd_inj (n := 9) (by omega) (by omega) (by omega) z
            omega
      · exfalso
        subst q'
        rw [h8] at e'
        have e1 := fd_inj (n := 9) (by omega) (by omega) (by omega) e'
        subst e1
        rcases hR.1 c q with z | ⟨x, hx, z⟩
        · rw [e] at z
          exact absurd z.symm (pl_m1 (by omega))
        · rw [e] at z
          have := fd_inj (n := 9) (by omega) (by omega) (by omega) z
          omega
    · rcases hc' with q' | q'
      · exfalso
        subst q
        rw [h8] at e
        have e1 := fd_inj (n := 9) (by omega) (by omega) (by omega) e
        subst e1
        rcases hR.1 c' q' with z | ⟨x, hx, z⟩
        · rw [e'] at z
          exact absurd z.symm (pl_m1 (by omega))
        · rw [e'] at z
          have := fd_inj (n := 9) (by omega) (by omega) (by omega) z
          omega
      · omega
  · have hmem : ∀ d', d' ≤ 8 → dn d' ≠ 0 → d' ≠ a ∧ (d' = 8 ∨ (d' < n ∧ upd dn a 1 d' ≠ 0)) := fun d' h1 h2 => by
      have hne : d' ≠ a := fun z => by
        subst z
        exact h2 hD.2.1
      refine ⟨hne, ?_⟩
      rcases hD.2.2 d' h1 h2 with q | q
      · exact Or.inl q
      · refine Or.inr ⟨q.1, ?_⟩
        rw [pk_un hne]
        exact h2
    by_cases e : d = a
    · subst e
      obtain ⟨-, d', r, w1, w2, w3, w4, w5, w6⟩ := m6 d hd hD.2.1
      obtain ⟨hne, hm⟩ := hmem d' w1 w4
      refine ⟨d', r, hm, w2, w3, w5, by rw [w6]; exact m5, ?_⟩
      show (if d' = d then tm else rk d') < (if d = d then tm else rk d)
      rw [if_neg hne, if_pos rfl]
      exact m8 d' w1 w4
    · rw [pk_un e] at hdd
      obtain ⟨d', r, w1, w2, w3, w4, w5, w6, w7⟩ := m7 d hd hdd
      obtain ⟨hne, hm⟩ := hmem d' w1 w4
      refine ⟨d', r, hm, w2, w3, w5, w6, ?_⟩
      show (if d' = a then tm else rk d') < (if d = a then tm else rk d)
      rw [if_neg hne, if_neg e]
      exact w7
theorem pl_G_step {n row a : Nat} {ov : Nat → Nat → Int} {v : Nat → Int64} {be dn : Nat → Int32} {rk : Nat → Nat} {ro : Nat → Int32} (hn : n ≤ 8) (hrow : row < n) (h : pl_G n row ov v be dn rk ro a) (ha : a ≠ 8) : ∃ d r, d ≤ 8 ∧ r ≤ row ∧ a < n ∧ be a = nI d ∧ ro d = nI r ∧ rk d < rk a ∧ pl_G n row ov v be dn rk (upd ro a (nI r)) d := by
  obtain ⟨g0, g1, g2, g3, g4⟩ := h
  rcases g0 with q | ⟨han, had⟩
  · exact absurd q ha
  obtain ⟨d, r, w1, w2, w3, w4, w5, w6⟩ := g4 a han had (Nat.le_refl _)
  have hd8 : d ≤ 8 := by
    rcases w1 with q | q <;> omega
  have hdn : d < n ∨ d = 8 := by
    rcases w1 with q | q
    · exact Or.inr q
    · exact Or.inl q.1
  have hne : d ≠ a := fun z => by
    subst z
    omega
  refine ⟨d, r, hd8, w2, han, w3, w4, w6, w1, fun c hc hcd => ?_, fun x hx => ?_, fun c c' x hc hc' hcd hcd' hx e e' => ?_, fun d2 hd2 hdd2 hrk => ?_⟩
  · by_cases e : c = a
    · subst e
      exact Or.inr ⟨r, w2, pk_us, w5⟩
    · rw [pk_un e]
      exact g1 c hc e
  · obtain ⟨c, c1, c2, c3⟩ := g2 x hx
    by_cases e : c = d
    · subst e
      rw [w4] at c3
      have := fd_inj (n := 9) (by omega) (by omega) (by omega) c3
      subst this
      exact ⟨a, Or.inl han, fun z => hne z.symm, pk_us⟩
    · exact ⟨c, c1, e, by rw [pk_un c2]; exact c3⟩
  · have key : ∀ y, (y < n ∨ y = 8) → y ≠ d → y ≠ a → ro y = nI r → False := fun y y1 y2 y3 y4 => y2 (g3 y d r y1 hdn y3 hne w2 y4 w4)
    by_cases z : c = a
    · by_cases z' : c' = a
      · omega
      · subst z
        rw [pk_us] at e
        rw [pk_un z'] at e'
        have := fd_inj (n := 9) (by omega) (by omega) (by omega) e
        subst this
        exact (key c' hc' hcd' z' e').elim
    · by_cases z' : c' = a
      · subst z'
        rw [pk_us] at e'
        rw [pk_un z] at e
        have := fd_inj (n := 9) (by omega) (by omega) (by omega) e'
        subst this
        exact (key c hc hcd z e).elim
      · rw [pk_un z] at e
        rw [pk_un z'] at e'
        exact g3 c c' x hc hc' z z' hx e e'
  · obtain ⟨d', x, v1, v2, v3, v4, v5, v6⟩ := g4 d2 hd2 hdd2 (by omega)
    refine ⟨d', x, v1, v2, v3, ?_, v5, v6⟩
    rw [pk_un (fun z => by subst z; omega)]
    exact v4
theorem pl_G_end {n row : Nat} {co : Nat → Int32} {u v : Nat → Int64} {be dn : Nat → Int32} {rk : Nat → Nat} {ro ro0 : Nat → Int32} (hn : n ≤ 8) (hrow : row < n) (hV : pl_V n row co u v ro0) (hrf : ∀ c, c < n → 0 ≤ pl_ov co u v row c) (h : pl_G n row (pl_ov co u v) v be dn rk ro 8) : pl_P n (row + 1) co u v ro := by
  obtain ⟨g0, g1, g2, g3, g4⟩ := h
  refine ⟨⟨fun c hc => ?_, fun r hr => ?_, fun c c' r hc hc' hr e e' => ?_⟩, ⟨fun c hc => ⟨(hV.1 c hc).1, fun e => ?_⟩, fun r c hr hc => ?_, fun c r hc hr e => ?_, fun r hr hr8 => hV.2.2.2 r (by omega) hr8⟩, fun h => hV.2.2.2 (row + 1) (by omega) h⟩
  · rcases g1 c hc (by omega) with q | ⟨r, hr, q, -⟩
    · exact Or.inl q.1
    · exact Or.inr ⟨r, by omega, q⟩
  · obtain ⟨c, c1, c2, c3⟩ := g2 r (by omega)
    rcases c1 with q | q
    · exact ⟨c, q, c3⟩
    · exact absurd q c2
  · exact g3 c c' r (Or.inl hc) (Or.inl hc') (by omega) (by omega) (by omega) e e'
  · rcases g1 c hc (by omega) with q | ⟨r, hr, q, -⟩
    · exact q.2
    · rw [e] at q
      exact absurd q (pl_m1 (by omega))
  · by_cases e : r = row
    · subst e
      exact hrf c hc
    · exact hV.2.1 r c (by omega) hc
  · rcases g1 c hc (by omega) with q | ⟨x, hx, q, z⟩
    · rw [e] at q
      exact absurd q.1.symm (pl_m1 (by omega))
    · rw [e] at q
      rw [fd_inj (n := 9) (by omega) (by omega) (by omega) q]
      exact z
/-- all rows have their columns: the giving, nothing over, nothing below 0 -/
theorem pl_end {n : Nat} {co : Nat → Int32} {u v : Nat → Int64} {ro : Nat → Int32} (hn : n ≤ 8) (h0 : 0 < n) (h : pl_P n n co u v ro) : (∀ r c, r < n → c < n → 0 ≤ pl_ov co u v r c) ∧ ∀ c, c < n → ∃ r, r < n ∧ ro c = nI r ∧ pl_ov co u v r c = 0 := by
  obtain ⟨hR, hV, -⟩ := h
  refine ⟨hV.2.1, fun c hc => ?_⟩
  have hg : ∃ f : Nat → Nat, ∀ r, r < n → f r < n ∧ ro (f r) = nI r := by
    refine ⟨fun r => if h : r < n then Classical.choose (hR.2.1 r h) else 0, fun r hr => ?_⟩
    have := Classical.choose_spec (hR.2.1 r hr)
    show (if h : r < n then Classical.choose (hR.2.1 r h) else 0) < n ∧ ro (if h : r < n then Classical.choose (hR.2.1 r h) else 0) = nI r
    rw [dif_pos hr]
    exact this
  obtain ⟨f, hf⟩ := hg
  have hgiv : pd_giv n f := ⟨fun r hr => (hf r hr).1, fun r r' hr hr' e => by
    have a1 := (hf r hr).2
    have a2 := (hf r' hr').2
    rw [e, a2] at a1
    exact (fd_inj (n := 9) (by omega) (by omega) (by omega) a1).symm⟩
  obtain ⟨r, hr, e⟩ := pd_surj n f hgiv c hc
  have a1 := (hf r hr).2
  rw [e] at a1
  exact ⟨r, hr, a1, hV.2.2.1 c r hc hr a1⟩
theorem pl_end_bd {n : Nat} {co : Nat → Int32} {u v : Nat → Int64} {ro : Nat → Int32} (h : pl_P n n co u v ro) (hf : ∃ c, c < n ∧ (v c).toInt = 0) : (∀ r, r < n → -8589934592 ≤ (u r).toInt ∧ (u r).toInt ≤ 8589934592) ∧ ∀ c, c < n → -8589934592 ≤ (v c).toInt ∧ (v c).toInt ≤ 8589934592 := by
  obtain ⟨h1, h2⟩ := pl_bd h.1 h.2.1 hf
  exact ⟨fun r hr => by have := h1 r hr; omega, fun c hc => by have := h2 c hc; omega⟩
end
section
/-! Arrays.fill, three of it; over; set -/
set_option maxRecDepth 100000
section FILL
variable {p : Program} {l : Launch} {e : Env} {R : Room} {s : State} {m : MethodId} {args : Array Value} {below : List Frame} {meth : Method} {c : Code} {H : Heap} {locs : List Loc} {cells slots : Nat} {Q : State → Prop}
variable {pc : Nat} {ls : Array Slot} {rest : List Value} {dC : Nat → ClassId} {dI : Nat → Nat → Nat} {A : Nat → Prop} {nL : Nat}
set_option maxHeartbeats 4000000 in
set_option maxRecDepth 100000 in
theorem filli_loop {a N : Nat} {cA : ClassId} {x : Int32} (S : CallFix p m c cJ0_fill 4 s args lw_all RJ0) (hK : va_K (dC, dI) vwCl [(cA, .int)] s) (hN : N < 1000)
    (kt : ∀ (g : Nat → Int32) (H : Heap) (locs : List Loc) (ls : Array Slot), (∀ i, i < N → g i = x) → va_P (dC, dI) vwCl ([(a, .inl (cA, N, .inl g))]) H → va_D A ([(a, .inl (cA, N, .inl g))]) → va_S A s.heap H locs → W p l e R s m args below meth c H locs cells slots Q (F0 m 20 ls [])) :
    ∀ (j k : Nat) (g : Nat → Int32) (H : Heap) (locs : List Loc) (ls : Array Slot), k + j = N → (∀ i, i < k → g i = x) → va_P (dC, dI) vwCl ([(a, .inl (cA, N, .inl g))]) H → va_D A ([(a, .inl (cA, N, .inl g))]) → va_S A s.heap H locs → lv_has ls 4 [(0, .ref a), (1, .int x), (2, .int (nI k)), (3, .int (nI N))] → W p l e R s m args below meth c H locs cells slots Q (F0 m 5 ls []) := by
  obtain ⟨hx, hb, hml, hown, hts⟩ := id S
  intro j
  induction j with
  | zero =>
    intro k g H locs ls hk hg hP hD hS hl
    refine lv_iload_n hx hb dJ0_fill_5 rfl (lv_at hl 2 rfl) ?_
    refine lv_iload_n hx hb dJ0_fill_6 rfl (lv_at hl 3 rfl) ?_
    refine pn_ge (tgt := 20) hx hb (by omega) (by omega) dJ0_fill_7 (by decide) (fun q => ?_) (fun q => ?_)
    · exact kt g H locs ls (fun i hi => hg i (by omega)) hP hD hS
    · omega
  | succ j ih =>
    intro k g H locs ls hk hg hP hD hS hl
    refine lv_iload_n hx hb dJ0_fill_5 rfl (lv_at hl 2 rfl) ?_
    refine lv_iload_n hx hb dJ0_fill_6 rfl (lv_at hl 3 rfl) ?_
    refine pn_ge (tgt := 20) hx hb (by omega) (by omega) dJ0_fill_7 (by decide) (fun q => ?_) (fun q => ?_)
    · omega
    · refine lv_aload_n hx hb dJ0_fill_10 rfl (lv_at hl 0 rfl) ?_
      refine lv_iload_n hx hb dJ0_fill_11 rfl (lv_at hl 2 rfl) ?_
      refine lv_iload_n hx hb dJ0_fill_12 rfl (lv_at hl 1 rfl) ?_
      refine va_iast hx hb hK hP hD hS 0 0 rfl rfl (vp_in_nI q (by omega)) dJ0_fill_13 (fun H locs hP hD hS => ?_)
      rw [nI_clamp (by omega)] at hP hD
      refine lv_iinc (v := nI (k + 1)) (lv' := [(2, .int (nI (k + 1))), (0, .ref a), (1, .int x), (3, .int (nI N))]) hx hb dJ0_fill_14 hl (k := 2) rfl (nI_1 k) (by decide) rfl (fun ls hl => ?_)
      refine lv_goto (tgt := 5) hx hb dJ0_fill_17 (by decide) ?_
      refine ih (k + 1) (upd g k x) H locs ls (by omega) (fun i hi => ?_) hP hD hS (lv_sub hl [1, 2, 0, 3] rfl)
      by_cases e : i = k
      · subst e
        exact pk_us
      · rw [pk_un e]
        exact hg i (by omega)
set_option maxHeartbeats 4000000 in
set_option maxRecDepth 100000 in
theorem met_filli (l : Launch) (dC : Nat → ClassId) (dI : Nat → Nat → Nat) (a N : Nat) (cA : ClassId) (f : Nat → Int32) (x : Int32) (hN : N < 1000) (sz : Nat) : Met l yJ0_fill (ws_ yJ0_fill cJ0_fill 4 none) ({ frames := 0, cells := 0, slots := 0, locals := 0 } : Room) (va_Pc [.ref a, .int x] (pdPre dC dI [(cA, .int)] sz ([(a, .inl (cA, N, .inl f))]))) (va_Qv (fun g : Nat → Int32 => ∀ j, j < N → g j = x) (fun g t => pdPost dC dI (va_A ([(a, .inl (cA, N, .inl f))]) sz) [(a, .inl (cA, N, .inl g))] t) (va_A ([(a, .inl (cA, N, .inl f))]) sz)) 0 0 (va_A ([(a, .inl (cA, N, .inl f))]) sz) := by
  refine Met.ofW (cc := cJ0_fill) (maxL := 4) (ret := none) (by decide) rfl ?_
  intro p e s m args below meth c s₁ B hml hv
  obtain ⟨rfl, hsz, hP, hK, hD0⟩ := hv
  have hx := B.exec
  have hb := B.bytes
  have hr := B.returns
  have hts0 := atoms_spec (ws := ws_ yJ0_fill cJ0_fill 4 none) B.pre
  have hts : ∀ w ∈ lw_all, w.before _ s = true := fun w h => hts0 w (List.mem_cons_of_mem _ h)
  have hown : s.vm.findClass RJ0 = some m.cls := findClass_of_methodNamed B.named
  have hlocks := B.notSynchronized
  have S : CallFix p m c cJ0_fill 4 s ([.ref a, .int x] : List Value).toArray lw_all RJ0 := ⟨hx, hb, hml, hown, hts⟩
  subst hsz
  have hD := hD0.self (sz := s.heap.size)
  generalize hAe : va_A ([(a, .inl (cA, N, .inl f))]) s.heap.size = A at hD ⊢
  have hA : ∀ q : Nat, s.heap.size ≤ q → A q := fun q h => by rw [← hAe]; exact Or.inr h
  have hS : va_S A s.heap s.heap [] := va_S.rf
  have hl := lv_entry ([.ref a, .int x]) (n := 4) (Nat.le_of_ble_eq_true rfl)
  rw [lg_entry_eq]
  generalize (lg_sl ([.ref a, .int x]) ++ List.replicate (4 - (lg_sl ([.ref a, .int x])).length) Slot.unset).toArray = ls at hl ⊢
  have hl : lv_has ls 4 [(0, .ref a), (1, .int x)] := hl
  refine lv_iconst (v := nI 0) hx hb dJ0_fill_0 (by decide) ?_
  refine lv_istore_n (lv' := [(2, .int (nI 0)), (0, .ref a), (1, .int x)]) hx hb dJ0_fill_1 rfl hl (by decide) rfl (fun ls hl => ?_)
  refine lv_aload_n hx hb dJ0_fill_2 rfl (lv_at hl 1 rfl) ?_
  refine va_alen (v := nI N) hx hb hK hP 0 0 rfl rfl rfl dJ0_fill_3 ?_
  refine lv_istore_n (lv' := [(3, .int (nI N)), (2, .int (nI 0)), (0, .ref a), (1, .int x)]) hx hb dJ0_fill_4 rfl hl (by decide) rfl (fun ls hl => ?_)
  refine filli_loop (x := x) S hK hN (fun g H locs ls hg hP hD hS => ?_) N 0 f s.heap [] ls (by omega) (fun i hi => by omega) hP hD hS (lv_sub hl [2, 3, 1, 0] rfl)
  exact W.vret hx hb hr (fun t ht hW => ⟨⟨g, rfl, hg, by rw [ht]; exact hP, hD⟩, hS.F ht⟩) hS.2.2 dJ0_fill_20
set_option maxHeartbeats 4000000 in
set_option maxRecDepth 100000 in
theorem filll_loop {a N : Nat} {cA : ClassId} {x : Int64} (S : CallFix p m c cJ0_fill_2 5 s args lw_all RJ0) (hK : va_K (dC, dI) vwCl [(cA, .long)] s) (hN : N < 1000)
    (kt : ∀ (g : Nat → Int64) (H : Heap) (locs : List Loc) (ls : Array Slot), (∀ i, i < N → g i = x) → va_P (dC, dI) vwCl ([(a, .inl (cA, N, .inr (.inl g)))]) H → va_D A ([(a, .inl (cA, N, .inr (.inl g)))]) → va_S A s.heap H locs → W p l e R s m args below meth c H locs cells slots Q (F0 m 22 ls [])) :
    ∀ (j k : Nat) (g : Nat → Int64) (H : Heap) (locs : List Loc) (ls : Array Slot), k + j = N → (∀ i, i < k → g i = x) → va_P (dC, dI) vwCl ([(a, .inl (cA, N, .inr (.inl g)))]) H → va_D A ([(a, .inl (cA, N, .inr (.inl g)))]) → va_S A s.heap H locs → lv_has ls 5 [(0, .ref a), (1, .long x), (3, .int (nI k)), (4, .int (nI N))] → W p l e R s m args below meth c H locs cells slots Q (F0 m 6 ls []) := by
  obtain ⟨hx, hb, hml, hown, hts⟩ := id S
  intro j
  induction j with
  | zero =>
    intro k g H locs ls hk hg hP hD hS hl
    refine lv_iload_n hx hb dJ0_fill_2_6 rfl (lv_at hl 2 rfl) ?_
    refine lv_iload hx hb dJ0_fill_2_7 (lv_at hl 3 rfl) ?_
    refine pn_ge (tgt := 22) hx hb (by omega) (by omega) dJ0_fill_2_9 (by decide) (fun q => ?_) (fun q => ?_)
    · exact kt g H locs ls (fun i hi => hg i (by omega)) hP hD hS
    · omega
  | succ j ih =>
    intro k g H locs ls hk hg hP hD hS hl
    refine lv_iload_n hx hb dJ0_fill_2_6 rfl (lv_at hl 2 rfl) ?_
    refine lv_iload hx hb dJ0_fill_2_7 (lv_at hl 3 rfl) ?_
    refine pn_ge (tgt := 22) hx hb (by omega) (by omega) dJ0_fill_2_9 (by decide) (fun q => ?_) (fun q => ?_)
    · omega
    · refine lv_aload_n hx hb dJ0_fill_2_12 rfl (lv_at hl 0 rfl) ?_
      refine lv_iload_n hx hb dJ0_fill_2_13 rfl (lv_at hl 2 rfl) ?_
      refine lv_lload_n hx hb dJ0_fill_2_14 rfl (lv_at hl 1 rfl) ?_
      refine va_last hx hb hK hP hD hS 0 0 rfl rfl (vp_in_nI q (by omega)) dJ0_fill_2_15 (fun H locs hP hD hS => ?_)
      rw [nI_clamp (by omega)] at hP hD
      refine lv_iinc (v := nI (k + 1)) (lv' := [(3, .int (nI (k + 1))), (0, .ref a), (1, .long x), (4, .int (nI N))]) hx hb dJ0_fill_2_16 hl (k := 2) rfl (nI_1 k) (by decide) rfl (fun ls hl => ?_)
      refine lv_goto (tgt := 6) hx hb dJ0_fill_2_19 (by decide) ?_
      refine ih (k + 1) (vp_updL g k x) H locs ls (by omega) (fun i hi => ?_) hP hD hS (lv_sub hl [1, 2, 0, 3] rfl)
      by_cases e : i = k
      · subst e
        exact pk_uLs
      · rw [pk_uLn e]
        exact hg i (by omega)
set_option maxHeartbeats 4000000 in
set_option maxRecDepth 100000 in
theorem met_filll (l : Launch) (dC : Nat → ClassId) (dI : Nat → Nat → Nat) (a N : Nat) (cA : ClassId) (f : Nat → Int64) (x : Int64) (hN : N < 1000) (sz : Nat) : Met l yJ0_fill_2 (ws_ yJ0_fill_2 cJ0_fill_2 5 none) ({ frames := 0, cells := 0, slots := 0, locals := 0 } : Room) (va_Pc [.ref a, .long x] (pdPre dC dI [(cA, .long)] sz ([(a, .inl (cA, N, .inr (.inl f)))]))) (va_Qv (fun g : Nat → Int64 => ∀ j, j < N → g j = x) (fun g t => pdPost dC dI (va_A ([(a, .inl (cA, N, .inr (.inl f)))]) sz) [(a, .inl (cA, N, .inr (.inl g)))] t) (va_A ([(a, .inl (cA, N, .inr (.inl f)))]) sz)) 0 0 (va_A ([(a, .inl (cA, N, .inr (.inl f)))]) sz) := by
  refine Met.ofW (cc := cJ0_fill_2) (maxL := 5) (ret := none) (by decide) rfl ?_
  intro p e s m args below meth c s₁ B hml hv
  obtain ⟨rfl, hsz, hP, hK, hD0⟩ := hv
  have hx := B.exec
  have hb := B.bytes
  have hr := B.returns
  have hts0 := atoms_spec (ws := ws_ yJ0_fill_2 cJ0_fill_2 5 none) B.pre
  have hts : ∀ w ∈ lw_all, w.before _ s = true := fun w h => hts0 w (List.mem_cons_of_mem _ h)
  have hown : s.vm.findClass RJ0 = some m.cls := findClass_of_methodNamed B.named
  have hlocks := B.notSynchronized
  have S : CallFix p m c cJ0_fill_2 5 s ([.ref a, .long x] : List Value).toArray lw_all RJ0 := ⟨hx, hb, hml, hown, hts⟩
  subst hsz
  have hD := hD0.self (sz := s.heap.size)
  generalize hAe : va_A ([(a, .inl (cA, N, .inr (.inl f)))]) s.heap.size = A at hD ⊢
  have hA : ∀ q : Nat, s.heap.size ≤ q → A q := fun q h => by rw [← hAe]; exact Or.inr h
  have hS : va_S A s.heap s.heap [] := va_S.rf
  have hl := lv_entry ([.ref a, .long x]) (n := 5) (Nat.le_of_ble_eq_true rfl)
  rw [lg_entry_eq]
  generalize (lg_sl ([.ref a, .long x]) ++ List.replicate (5 - (lg_sl ([.ref a, .long x])).length) Slot.unset).toArray = ls at hl ⊢
  have hl : lv_has ls 5 [(0, .ref a), (1, .long x)] := hl
  refine lv_iconst (v := nI 0) hx hb dJ0_fill_2_0 (by decide) ?_
  refine lv_istore_n (lv' := [(3, .int (nI 0)), (0, .ref a), (1, .long x)]) hx hb dJ0_fill_2_1 rfl hl (by decide) rfl (fun ls hl => ?_)
  refine lv_aload_n hx hb dJ0_fill_2_2 rfl (lv_at hl 1 rfl) ?_
  refine va_alen (v := nI N) hx hb hK hP 0 0 rfl rfl rfl dJ0_fill_2_3 ?_
  refine lv_istore (lv' := [(4, .int (nI N)), (3, .int (nI 0)), (0, .ref a), (1, .long x)]) hx hb dJ0_fill_2_4 hl (by decide) rfl (fun ls hl => ?_)
  refine filll_loop (x := x) S hK hN (fun g H locs ls hg hP hD hS => ?_) N 0 f s.heap [] ls (by omega) (fun i hi => by omega) hP hD hS (lv_sub hl [2, 3, 1, 0] rfl)
  exact W.vret hx hb hr (fun t ht hW => ⟨⟨g, rfl, hg, by rw [ht]; exact hP, hD⟩, hS.F ht⟩) hS.2.2 dJ0_fill_2_22
set_option maxHeartbeats 4000000 in
set_option maxRecDepth 100000 in
theorem fillz_loop {a N : Nat} {cA : ClassId} {x : Int32} (S : CallFix p m c cJ0_fill_3 4 s args lw_all RJ0) (hK : va_K (dC, dI) vwCl [(cA, .boolean)] s) (hN : N < 1000) (hz : vp_nar .boolean x = x)
    (kt : ∀ (g : Nat → Int32) (H : Heap) (locs : List Loc) (ls : Array Slot), (∀ i, i < N → g i = x) → va_P (dC, dI) vwCl ([(a, .inl (cA, N, .inl g))]) H → va_D A ([(a, .inl (cA, N, .inl g))]) → va_S A s.heap H locs → W p l e R s m args below meth c H locs cells slots Q (F0 m 20 ls [])) :
    ∀ (j k : Nat) (g : Nat → Int32) (H : Heap) (locs : List Loc) (ls : Array Slot), k + j = N → (∀ i, i < k → g i = x) → va_P (dC, dI) vwCl ([(a, .inl (cA, N, .inl g))]) H → va_D A ([(a, .inl (cA, N, .inl g))]) → va_S A s.heap H locs → lv_has ls 4 [(0, .ref a), (1, .int x), (2, .int (nI k)), (3, .int (nI N))] → W p l e R s m args below meth c H locs cells slots Q (F0 m 5 ls []) := by
  obtain ⟨hx, hb, hml, hown, hts⟩ := id S
  intro j
  induction j with
  | zero =>
    intro k g H locs ls hk hg hP hD hS hl
    refine lv_iload_n hx hb dJ0_fill_3_5 rfl (lv_at hl 2 rfl) ?_
    refine lv_iload_n hx hb dJ0_fill_3_6 rfl (lv_at hl 3 rfl) ?_
    refine pn_ge (tgt := 20) hx hb (by omega) (by omega) dJ0_fill_3_7 (by decide) (fun q => ?_) (fun q => ?_)
    · exact kt g H locs ls (fun i hi => hg i (by omega)) hP hD hS
    · omega
  | succ j ih =>
    intro k g H locs ls hk hg hP hD hS hl
    refine lv_iload_n hx hb dJ0_fill_3_5 rfl (lv_at hl 2 rfl) ?_
    refine lv_iload_n hx hb dJ0_fill_3_6 rfl (lv_at hl 3 rfl) ?_
    refine pn_ge (tgt := 20) hx hb (by omega) (by omega) dJ0_fill_3_7 (by decide) (fun q => ?_) (fun q => ?_)
    · omega
    · refine lv_aload_n hx hb dJ0_fill_3_10 rfl (lv_at hl 0 rfl) ?_
      refine lv_iload_n hx hb dJ0_fill_3_11 rfl (lv_at hl 2 rfl) ?_
      refine lv_iload_n hx hb dJ0_fill_3_12 rfl (lv_at hl 1 rfl) ?_
      refine va_zast hx hb hK hP hD hS 0 0 rfl rfl (vp_in_nI q (by omega)) dJ0_fill_3_13 (fun H locs hP hD hS => ?_)
      rw [nI_clamp (by omega), hz] at hP hD
      refine lv_iinc (v := nI (k + 1)) (lv' := [(2, .int (nI (k + 1))), (0, .ref a), (1, .int x), (3, .int (nI N))]) hx hb dJ0_fill_3_14 hl (k := 2) rfl (nI_1 k) (by decide) rfl (fun ls hl => ?_)
      refine lv_goto (tgt := 5) hx hb dJ0_fill_3_17 (by decide) ?_
      refine ih (k + 1) (upd g k x) H locs ls (by omega) (fun i hi => ?_) hP hD hS (lv_sub hl [1, 2, 0, 3] rfl)
      by_cases e : i = k
      · subst e
        exact pk_us
      · rw [pk_un e]
        exact hg i (by omega)
set_option maxHeartbeats 4000000 in
set_option maxRecDepth 100000 in
theorem met_fillz (l : Launch) (dC : Nat → ClassId) (dI : Nat → Nat → Nat) (a N : Nat) (cA : ClassId) (f : Nat → Int32) (x : Int32) (hN : N < 1000) (hz : vp_nar .boolean x = x) (sz : Nat) : Met l yJ0_fill_3 (ws_ yJ0_fill_3 cJ0_fill_3 4 none) ({ frames := 0, cells := 0, slots := 0, locals := 0 } : Room) (va_Pc [.ref a, .int x] (pdPre dC dI [(cA, .boolean)] sz ([(a, .inl (cA, N, .inl f))]))) (va_Qv (fun g : Nat → Int32 => ∀ j, j < N → g j = x) (fun g t => pdPost dC dI (va_A ([(a, .inl (cA, N, .inl f))]) sz) [(a, .inl (cA, N, .inl g))] t) (va_A ([(a, .inl (cA, N, .inl f))]) sz)) 0 0 (va_A ([(a, .inl (cA, N, .inl f))]) sz) := by
  refine Met.ofW (cc := cJ0_fill_3) (maxL := 4) (ret := none) (by decide) rfl ?_
  intro p e s m args below meth c s₁ B hml hv
  obtain ⟨rfl, hsz, hP, hK, hD0⟩ := hv
  have hx := B.exec
  have hb := B.bytes
  have hr := B.returns
  have hts0 := atoms_spec (ws := ws_ yJ0_fill_3 cJ0_fill_3 4 none) B.pre
  have hts : ∀ w ∈ lw_all, w.before _ s = true := fun w h => hts0 w (List.mem_cons_of_mem _ h)
  have hown : s.vm.findClass RJ0 = some m.cls := findClass_of_methodNamed B.named
  have hlocks := B.notSynchronized
  have S : CallFix p m c cJ0_fill_3 4 s ([.ref a, .int x] : List Value).toArray lw_all RJ0 := ⟨hx, hb, hml, hown, hts⟩
  subst hsz
  have hD := hD0.self (sz := s.heap.size)
  generalize hAe : va_A ([(a, .inl (cA, N, .inl f))]) s.heap.size = A at hD ⊢
  have hA : ∀ q : Nat, s.heap.size ≤ q → A q := fun q h => by rw [← hAe]; exact Or.inr h
  have hS : va_S A s.heap s.heap [] := va_S.rf
  have hl := lv_entry ([.ref a, .int x]) (n := 4) (Nat.le_of_ble_eq_true rfl)
  rw [lg_entry_eq]
  generalize (lg_sl ([.ref a, .int x]) ++ List.replicate (4 - (lg_sl ([.ref a, .int x])).length) Slot.unset).toArray = ls at hl ⊢
  have hl : lv_has ls 4 [(0, .ref a), (1, .int x)] := hl
  refine lv_iconst (v := nI 0) hx hb dJ0_fill_3_0 (by decide) ?_
  refine lv_istore_n (lv' := [(2, .int (nI 0)), (0, .ref a), (1, .int x)]) hx hb dJ0_fill_3_1 rfl hl (by decide) rfl (fun ls hl => ?_)
  refine lv_aload_n hx hb dJ0_fill_3_2 rfl (lv_at hl 1 rfl) ?_
  refine va_alen (v := nI N) hx hb hK hP 0 0 rfl rfl rfl dJ0_fill_3_3 ?_
  refine lv_istore_n (lv' := [(3, .int (nI N)), (2, .int (nI 0)), (0, .ref a), (1, .int x)]) hx hb dJ0_fill_3_4 rfl hl (by decide) rfl (fun ls hl => ?_)
  refine fillz_loop (x := x) S hK hN hz (fun g H locs ls hg hP hD hS => ?_) N 0 f s.heap [] ls (by omega) (fun i hi => by omega) hP hD hS (lv_sub hl [2, 3, 1, 0] rfl)
  exact W.vret hx hb hr (fun t ht hW => ⟨⟨g, rfl, hg, by rw [ht]; exact hP, hD⟩, hS.F ht⟩) hS.2.2 dJ0_fill_3_20
end FILL
section FILLD
variable {p : Program} {l : Launch} {e : Env} {R : Room} {s : State} {m : MethodId} {args : Array Value} {below : List Frame} {meth : Method} {c : Code} {H : Heap} {locs : List Loc} {cells slots : Nat} {Q : State → Prop}
variable {pc : Nat} {ls : Array Slot} {rest : List Value} {dC : Nat → ClassId} {dI : Nat → Nat → Nat} {A : Nat → Prop} {nL : Nat}
variable {cc : ByteArray}
variable {h : Nat} {ad : Nat → Nat} {cs : Nat → ClassId} {nn rk : Int32} {co : Nat → Int32} {u v : Nat → Int64} {ro cl : Nat → Int32} {wy : Nat → Int64} {be dn : Nat → Int32}
set_option maxHeartbeats 4000000 in
set_option maxRecDepth 100000 in
theorem pd_fill_co (S : CallFix p m c cc nL s args lw_all RX0) (hR : 1 ≤ R.frames ∧ 30 ≤ R.locals) (hf : cells ≤ R.cells ∧ slots ≤ R.slots) (hA : ∀ q : Nat, s.heap.size ≤ q → A q) (hK : va_K (dC, dI) vwCl (pdT cs) s) (hP : va_P (dC, dI) vwCl (pdW h ad cs nn rk co u v ro cl wy be dn) H) (hD : va_D A (pdW h ad cs nn rk co u v ro cl wy be dn)) (hS : va_S A s.heap H locs) (hsz : ls.size = nL) {x : Int32} (hdg : decode cc pc = .ok (.invokestatic 42, 3))
    (kk : ∀ (g : Nat → Int32) (H1 : Heap) (locs1 : List Loc), (∀ j, j < 64 → g j = x) → va_P (dC, dI) vwCl (pdW h ad cs nn rk g u v ro cl wy be dn) H1 → va_D A (pdW h ad cs nn rk g u v ro cl wy be dn) → va_S A s.heap H1 locs1 → W p l e R s m args below meth c H1 locs1 cells slots Q (F0 m (pc + 3) ls [])) : W p l e R s m args below meth c H locs cells slots Q (F0 m pc ls (.int x :: .ref (ad 0) :: [])) := by
  refine pd_cSv1 (q0 := 1) (rest := []) S (met_filli l dC dI (ad 0) 64 (cs 0) co x (by omega) H.size) (va_cwS 2 S.2.2.2.2 (lw_S q56 q57 q9 q58) rfl rfl rfl (by decide +kernel) ⟨by have := hR.1; omega, by show 8 + (_ + 11) + 0 ≤ _; have := hR.2; omega⟩) hf hA (hK.sub (tys' := [(cs 0, .int)]) [0] rfl) hP hD hS rfl rfl hsz rfl (Nat.le_of_ble_eq_true rfl) hdg (fun g H1 locs1 hg hP1 hD1 hS1 => ?_)
  exact kk g H1 locs1 hg hP1 hD1 hS1
set_option maxHeartbeats 4000000 in
set_option maxRecDepth 100000 in
theorem pd_fill_u (S : CallFix p m c cc nL s args lw_all RX0) (hR : 1 ≤ R.frames ∧ 30 ≤ R.locals) (hf : cells ≤ R.cells ∧ slots ≤ R.slots) (hA : ∀ q : Nat, s.heap.size ≤ q → A q) (hK : va_K (dC, dI) vwCl (pdT cs) s) (hP : va_P (dC, dI) vwCl (pdW h ad cs nn rk co u v ro cl wy be dn) H) (hD : va_D A (pdW h ad cs nn rk co u v ro cl wy be dn)) (hS : va_S A s.heap H locs) (hsz : ls.size = nL) {x : Int64} (hdg : decode cc pc = .ok (.invokestatic 59, 3))
    (kk : ∀ (g : Nat → Int64) (H1 : Heap) (locs1 : List Loc), (∀ j, j < 8 → g j = x) → va_P (dC, dI) vwCl (pdW h ad cs nn rk co g v ro cl wy be dn) H1 → va_D A (pdW h ad cs nn rk co g v ro cl wy be dn) → va_S A s.heap H1 locs1 → W p l e R s m args below meth c H1 locs1 cells slots Q (F0 m (pc + 3) ls [])) : W p l e R s m args below meth c H locs cells slots Q (F0 m pc ls (.long x :: .ref (ad 1) :: [])) := by
  refine pd_cSv1 (q0 := 2) (rest := []) S (met_filll l dC dI (ad 1) 8 (cs 1) u x (by omega) H.size) (va_cwS 2 S.2.2.2.2 (lw_S q72 q73 q9 q74) rfl rfl rfl (by decide +kernel) ⟨by have := hR.1; omega, by show 8 + (_ + 11) + 0 ≤ _; have := hR.2; omega⟩) hf hA (hK.sub (tys' := [(cs 1, .long)]) [1] rfl) hP hD hS rfl rfl hsz rfl (Nat.le_of_ble_eq_true rfl) hdg (fun g H1 locs1 hg hP1 hD1 hS1 => ?_)
  exact kk g H1 locs1 hg hP1 hD1 hS1
set_option maxHeartbeats 4000000 in
set_option maxRecDepth 100000 in
theorem pd_fill_v (S : CallFix p m c cc nL s args lw_all RX0) (hR : 1 ≤ R.frames ∧ 30 ≤ R.locals) (hf : cells ≤ R.cells ∧ slots ≤ R.slots) (hA : ∀ q : Nat, s.heap.size ≤ q → A q) (hK : va_K (dC, dI) vwCl (pdT cs) s) (hP : va_P (dC, dI) vwCl (pdW h ad cs nn rk co u v ro cl wy be dn) H) (hD : va_D A (pdW h ad cs nn rk co u v ro cl wy be dn)) (hS : va_S A s.heap H locs) (hsz : ls.size = nL) {x : Int64} (hdg : decode cc pc = .ok (.invokestatic 59, 3))
    (kk : ∀ (g : Nat → Int64) (H1 : Heap) (locs1 : List Loc), (∀ j, j < 9 → g j = x) → va_P (dC, dI) vwCl (pdW h ad cs nn rk co u g ro cl wy be dn) H1 → va_D A (pdW h ad cs nn rk co u g ro cl wy be dn) → va_S A s.heap H1 locs1 → W p l e R s m args below meth c H1 locs1 cells slots Q (F0 m (pc + 3) ls [])) : W p l e R s m args below meth c H locs cells slots Q (F0 m pc ls (.long x :: .ref (ad 2) :: [])) := by
  refine pd_cSv1 (q0 := 3) (rest := []) S (met_filll l dC dI (ad 2) 9 (cs 2) v x (by omega) H.size) (va_cwS 2 S.2.2.2.2 (lw_S q72 q73 q9 q74) rfl rfl rfl (by decide +kernel) ⟨by have := hR.1; omega, by show 8 + (_ + 11) + 0 ≤ _; have := hR.2; omega⟩) hf hA (hK.sub (tys' := [(cs 2, .long)]) [2] rfl) hP hD hS rfl rfl hsz rfl (Nat.le_of_ble_eq_true rfl) hdg (fun g H1 locs1 hg hP1 hD1 hS1 => ?_)
  exact kk g H1 locs1 hg hP1 hD1 hS1
set_option maxHeartbeats 4000000 in
set_option maxRecDepth 100000 in
theorem pd_fill_ro (S : CallFix p m c cc nL s args lw_all RX0) (hR : 1 ≤ R.frames ∧ 30 ≤ R.locals) (hf : cells ≤ R.cells ∧ slots ≤ R.slots) (hA : ∀ q : Nat, s.heap.size ≤ q → A q) (hK : va_K (dC, dI) vwCl (pdT cs) s) (hP : va_P (dC, dI) vwCl (pdW h ad cs nn rk co u v ro cl wy be dn) H) (hD : va_D A (pdW h ad cs nn rk co u v ro cl wy be dn)) (hS : va_S A s.heap H locs) (hsz : ls.size = nL) {x : Int32} (hdg : decode cc pc = .ok (.invokestatic 42, 3))
    (kk : ∀ (g : Nat → Int32) (H1 : Heap) (locs1 : List Loc), (∀ j, j < 9 → g j = x) → va_P (dC, dI) vwCl (pdW h ad cs nn rk co u v g cl wy be dn) H1 → va_D A (pdW h ad cs nn rk co u v g cl wy be dn) → va_S A s.heap H1 locs1 → W p l e R s m args below meth c H1 locs1 cells slots Q (F0 m (pc + 3) ls [])) : W p l e R s m args below meth c H locs cells slots Q (F0 m pc ls (.int x :: .ref (ad 3) :: [])) := by
  refine pd_cSv1 (q0 := 4) (rest := []) S (met_filli l dC dI (ad 3) 9 (cs 3) ro x (by omega) H.size) (va_cwS 2 S.2.2.2.2 (lw_S q56 q57 q9 q58) rfl rfl rfl (by decide +kernel) ⟨by have := hR.1; omega, by show 8 + (_ + 11) + 0 ≤ _; have := hR.2; omega⟩) hf hA (hK.sub (tys' := [(cs 3, .int)]) [3] rfl) hP hD hS rfl rfl hsz rfl (Nat.le_of_ble_eq_true rfl) hdg (fun g H1 locs1 hg hP1 hD1 hS1 => ?_)
  exact kk g H1 locs1 hg hP1 hD1 hS1
set_option maxHeartbeats 4000000 in
set_option maxRecDepth 100000 in
theorem pd_fill_wy (S : CallFix p m c cc nL s args lw_all RX0) (hR : 1 ≤ R.frames ∧ 30 ≤ R.locals) (hf : cells ≤ R.cells ∧ slots ≤ R.slots) (hA : ∀ q : Nat, s.heap.size ≤ q → A q) (hK : va_K (dC, dI) vwCl (pdT cs) s) (hP : va_P (dC, dI) vwCl (pdW h ad cs nn rk co u v ro cl wy be dn) H) (hD : va_D A (pdW h ad cs nn rk co u v ro cl wy be dn)) (hS : va_S A s.heap H locs) (hsz : ls.size = nL) {x : Int64} (hdg : decode cc pc = .ok (.invokestatic 59, 3))
    (kk : ∀ (g : Nat → Int64) (H1 : Heap) (locs1 : List Loc), (∀ j, j < 8 → g j = x) → va_P (dC, dI) vwCl (pdW h ad cs nn rk co u v ro cl g be dn) H1 → va_D A (pdW h ad cs nn rk co u v ro cl g be dn) → va_S A s.heap H1 locs1 → W p l e R s m args below meth c H1 locs1 cells slots Q (F0 m (pc + 3) ls [])) : W p l e R s m args below meth c H locs cells slots Q (F0 m pc ls (.long x :: .ref (ad 5) :: [])) := by
  refine pd_cSv1 (q0 := 6) (rest := []) S (met_filll l dC dI (ad 5) 8 (cs 5) wy x (by omega) H.size) (va_cwS 2 S.2.2.2.2 (lw_S q72 q73 q9 q74) rfl rfl rfl (by decide +kernel) ⟨by have := hR.1; omega, by show 8 + (_ + 11) + 0 ≤ _; have := hR.2; omega⟩) hf hA (hK.sub (tys' := [(cs 5, .long)]) [5] rfl) hP hD hS rfl rfl hsz rfl (Nat.le_of_ble_eq_true rfl) hdg (fun g H1 locs1 hg hP1 hD1 hS1 => ?_)
  exact kk g H1 locs1 hg hP1 hD1 hS1
set_option maxHeartbeats 4000000 in
set_option maxRecDepth 100000 in
theorem pd_fill_dn (S : CallFix p m c cc nL s args lw_all RX0) (hR : 1 ≤ R.frames ∧ 30 ≤ R.locals) (hf : cells ≤ R.cells ∧ slots ≤ R.slots) (hA : ∀ q : Nat, s.heap.size ≤ q → A q) (hK : va_K (dC, dI) vwCl (pdT cs) s) (hP : va_P (dC, dI) vwCl (pdW h ad cs nn rk co u v ro cl wy be dn) H) (hD : va_D A (pdW h ad cs nn rk co u v ro cl wy be dn)) (hS : va_S A s.heap H locs) (hsz : ls.size = nL) {x : Int32} (hz : vp_nar .boolean x = x) (hdg : decode cc pc = .ok (.invokestatic 62, 3))
    (kk : ∀ (g : Nat → Int32) (H1 : Heap) (locs1 : List Loc), (∀ j, j < 9 → g j = x) → va_P (dC, dI) vwCl (pdW h ad cs nn rk co u v ro cl wy be g) H1 → va_D A (pdW h ad cs nn rk co u v ro cl wy be g) → va_S A s.heap H1 locs1 → W p l e R s m args below meth c H1 locs1 cells slots Q (F0 m (pc + 3) ls [])) : W p l e R s m args below meth c H locs cells slots Q (F0 m pc ls (.int x :: .ref (ad 7) :: [])) := by
  refine pd_cSv1 (q0 := 8) (rest := []) S (met_fillz l dC dI (ad 7) 9 (cs 7) dn x (by omega) hz H.size) (va_cwS 2 S.2.2.2.2 (lw_S q80 q81 q9 q82) rfl rfl rfl (by decide +kernel) ⟨by have := hR.1; omega, by show 8 + (_ + 11) + 0 ≤ _; have := hR.2; omega⟩) hf hA (hK.sub (tys' := [(cs 7, .boolean)]) [7] rfl) hP hD hS rfl rfl hsz rfl (Nat.le_of_ble_eq_true rfl) hdg (fun g H1 locs1 hg hP1 hD1 hS1 => ?_)
  exact kk g H1 locs1 hg hP1 hD1 hS1
end FILLD
end
section
/-! over, set, size, cost, given of the desk -/
set_option maxRecDepth 100000
set_option maxHeartbeats 4000000 in
set_option maxRecDepth 100000 in
theorem met_over (l : Launch) (dC : Nat → ClassId) (dI : Nat → Nat → Nat) (h : Nat) (ad : Nat → Nat) (cs : Nat → ClassId) (nn rk : Int32) (co : Nat → Int32) (u v : Nat → Int64) (ro cl : Nat → Int32) (wy : Nat → Int64) (be dn : Nat → Int32) (i j : Nat) (hi : i < 8) (hj : j < 8) (sz : Nat) : Met l yX0_over (ws_ yX0_over cX0_over 3 (some .long)) ({ frames := 0, cells := 0, slots := 0, locals := 0 } : Room) (va_Pc [.ref h, .int (nI i), .int (nI j)] (pdPre dC dI (pdT cs) sz (pdW h ad cs nn rk co u v ro cl wy be dn))) (va_Ql (fun (r : Int64) (_ : Unit) => r = (co (8 * i + j)).toInt64 - u i - v j) (fun _ t => pdPost dC dI (va_A (pdW h ad cs nn rk co u v ro cl wy be dn) sz) (pdW h ad cs nn rk co u v ro cl wy be dn) t) (va_A (pdW h ad cs nn rk co u v ro cl wy be dn) sz)) 0 0 (va_A (pdW h ad cs nn rk co u v ro cl wy be dn) sz) := by
  refine Met.ofW (cc := cX0_over) (maxL := 3) (ret := some .long) (by decide) rfl ?_
  intro p e s m args below meth c s₁ B hml hv
  obtain ⟨rfl, hsz, hP, hK, hD0⟩ := hv
  have hx := B.exec
  have hb := B.bytes
  have hr := B.returns
  have hts0 := atoms_spec (ws := ws_ yX0_over cX0_over 3 (some .long)) B.pre
  have hts : ∀ w ∈ lw_all, w.before _ s = true := fun w h => hts0 w (List.mem_cons_of_mem _ h)
  have hown : s.vm.findClass RX0 = some m.cls := findClass_of_methodNamed B.named
  have hlocks := B.notSynchronized
  have S : CallFix p m c cX0_over 3 s ([.ref h, .int (nI i), .int (nI j)] : List Value).toArray lw_all RX0 := ⟨hx, hb, hml, hown, hts⟩
  subst hsz
  have hD := hD0.self (sz := s.heap.size)
  generalize hAe : va_A (pdW h ad cs nn rk co u v ro cl wy be dn) s.heap.size = A at hD ⊢
  have hA : ∀ q : Nat, s.heap.size ≤ q → A q := fun q h => by rw [← hAe]; exact Or.inr h
  have hS : va_S A s.heap s.heap [] := va_S.rf
  have hl := lv_entry ([.ref h, .int (nI i), .int (nI j)]) (n := 3) (Nat.le_of_ble_eq_true rfl)
  rw [lg_entry_eq]
  generalize (lg_sl ([.ref h, .int (nI i), .int (nI j)]) ++ List.replicate (3 - (lg_sl ([.ref h, .int (nI i), .int (nI j)])).length) Slot.unset).toArray = ls at hl ⊢
  have hl : lv_has ls 3 [(0, .ref h), (1, .int (nI i)), (2, .int (nI j))] := hl
  refine lv_aload_n hx hb dX0_over_0 rfl (lv_at hl 0 rfl) ?_
  refine pd_g_co S hK hP dX0_over_1 ?_
  refine lv_bipush (v := nI 8) hx hb dX0_over_4 (by decide) ?_
  refine lv_iload_n hx hb dX0_over_6 rfl (lv_at hl 1 rfl) ?_
  refine lv_imul hx hb dX0_over_7 ?_
  refine lv_iload_n hx hb dX0_over_8 rfl (lv_at hl 2 rfl) ?_
  refine lv_iadd hx hb dX0_over_9 ?_
  refine pr_eqi (y := nI (8 * i + j)) (by rw [pk_mul, nI_add]) ?_
  refine pd_ld_co S hK hP (by omega) dX0_over_10 ?_
  refine lv_i2l hx hb dX0_over_11 rfl ?_
  refine lv_aload_n hx hb dX0_over_12 rfl (lv_at hl 0 rfl) ?_
  refine pd_g_u S hK hP dX0_over_13 ?_
  refine lv_iload_n hx hb dX0_over_16 rfl (lv_at hl 1 rfl) ?_
  refine pd_ld_u S hK hP (by omega) dX0_over_17 ?_
  refine lv_lsub hx hb dX0_over_18 ?_
  refine lv_aload_n hx hb dX0_over_19 rfl (lv_at hl 0 rfl) ?_
  refine pd_g_v S hK hP dX0_over_20 ?_
  refine lv_iload_n hx hb dX0_over_23 rfl (lv_at hl 2 rfl) ?_
  refine pd_ld_v S hK hP (by omega) dX0_over_24 ?_
  refine lv_lsub hx hb dX0_over_25 ?_
  exact W.lret hx hb hr (fun t ht hW => ⟨⟨_, (), rfl, rfl, by rw [ht]; exact hP, hD⟩, hS.F ht⟩) hS.2.2 dX0_over_26
section OVR
variable {p : Program} {l : Launch} {e : Env} {R : Room} {s : State} {m : MethodId} {args : Array Value} {below : List Frame} {meth : Method} {c : Code} {H : Heap} {locs : List Loc} {cells slots : Nat} {Q : State → Prop}
variable {pc : Nat} {ls : Array Slot} {rest : List Value} {dC : Nat → ClassId} {dI : Nat → Nat → Nat} {A : Nat → Prop} {nL : Nat}
variable {cc : ByteArray}
variable {h : Nat} {ad : Nat → Nat} {cs : Nat → ClassId} {nn rk : Int32} {co : Nat → Int32} {u v : Nat → Int64} {ro cl : Nat → Int32} {wy : Nat → Int64} {be dn : Nat → Int32}
theorem pd_nil {D : va_G} {k : List vw_C} {H : Heap} : va_P D k [] H := fun _ _ h => by simp at h
theorem pd_an {A : Nat → Prop} {w : va_W} (h : va_D A w) : va_D A (w ++ []) := by rw [List.append_nil]; exact h
theorem pd_na {A : Nat → Prop} {w : va_W} (h : va_D A (w ++ [])) : va_D A w := by rw [List.append_nil] at h; exact h
set_option maxHeartbeats 4000000 in
set_option maxRecDepth 100000 in
theorem pd_over (S : CallFix p m c cc nL s args lw_all RX0) (hR : 1 ≤ R.frames ∧ 30 ≤ R.locals) (hf : cells ≤ R.cells ∧ slots ≤ R.slots) (hA : ∀ q : Nat, s.heap.size ≤ q → A q) (hK : va_K (dC, dI) vwCl (pdT cs) s) (hP : va_P (dC, dI) vwCl (pdW h ad cs nn rk co u v ro cl wy be dn) H) (hD : va_D A (pdW h ad cs nn rk co u v ro cl wy be dn)) (hS : va_S A s.heap H locs) (hsz : ls.size = nL) {i j : Nat} (hi : i < 8) (hj : j < 8) (hrs : (rest.map fun v => v.category).sum ≤ 8) (hdg : decode cc pc = .ok (.invokevirtual 65, 3))
    (kk : ∀ (H1 : Heap) (locs1 : List Loc), va_P (dC, dI) vwCl (pdW h ad cs nn rk co u v ro cl wy be dn) H1 → va_D A (pdW h ad cs nn rk co u v ro cl wy be dn) → va_S A s.heap H1 locs1 → W p l e R s m args below meth c H1 locs1 cells slots Q (F0 m (pc + 3) ls (.long ((co (8 * i + j)).toInt64 - u i - v j) :: rest))) : W p l e R s m args below meth c H locs cells slots Q (F0 m pc ls (.int (nI j) :: .int (nI i) :: .ref h :: rest)) := by
  refine pd_cVl (wr := []) S (met_over l dC dI h ad cs nn rk co u v ro cl wy be dn i j hi hj H.size) (cwV 2 S.2.2.2.2 (lw_V q83 q85 qs2 q7 q86) rfl rfl rfl (by decide +kernel) ⟨by have := hR.1; omega, by show 8 + (_ + 11) + 0 ≤ _; have := hR.2; omega⟩) hf hA hK hP pd_nil (pd_an hD) hS (va_recv hK hP (ci := 0) (q0 := 0) rfl rfl) rfl hsz rfl hrs hdg (fun r _ H1 locs1 hw hP1 _ hD1 hS1 => ?_)
  subst hw
  exact kk H1 locs1 hP1 (pd_na hD1) hS1
end OVR
def pd_set (n : Nat) (co : Nat → Int32) (i j : Nat) (x : Int32) : Nat → Int32 := if j < n then upd co (8 * i + j) x else co
set_option maxHeartbeats 4000000 in
set_option maxRecDepth 100000 in
theorem met_set (l : Launch) (dC : Nat → ClassId) (dI : Nat → Nat → Nat) (h : Nat) (ad : Nat → Nat) (cs : Nat → ClassId) (rk : Int32) (co : Nat → Int32) (u v : Nat → Int64) (ro cl : Nat → Int32) (wy : Nat → Int64) (be dn : Nat → Int32) (n i j : Nat) (x : Int32) (hn : n ≤ 8) (hi : i < 8) (hj : j < 8) (sz : Nat) : Met l yX0_set (ws_ yX0_set cX0_set 4 none) ({ frames := 0, cells := 0, slots := 0, locals := 0 } : Room) (va_Pc [.ref h, .int (nI i), .int (nI j), .int x] (pdPre dC dI (pdT cs) sz (pdW h ad cs (nI n) rk co u v ro cl wy be dn))) (va_Qv (fun (_ : Unit) => True) (fun _ t => pdPost dC dI (va_A (pdW h ad cs (nI n) rk co u v ro cl wy be dn) sz) (pdW h ad cs (nI n) rk (pd_set n co i j x) u v ro cl wy be dn) t) (va_A (pdW h ad cs (nI n) rk co u v ro cl wy be dn) sz)) 0 0 (va_A (pdW h ad cs (nI n) rk co u v ro cl wy be dn) sz) := by
  refine Met.ofW (cc := cX0_set) (maxL := 4) (ret := none) (by decide) rfl ?_
  intro p e s m args below meth c s₁ B hml hv
  obtain ⟨rfl, hsz, hP, hK, hD0⟩ := hv
  have hx := B.exec
  have hb := B.bytes
  have hr := B.returns
  have hts0 := atoms_spec (ws := ws_ yX0_set cX0_set 4 none) B.pre
  have hts : ∀ w ∈ lw_all, w.before _ s = true := fun w h => hts0 w (List.mem_cons_of_mem _ h)
  have hown : s.vm.findClass RX0 = some m.cls := findClass_of_methodNamed B.named
  have hlocks := B.notSynchronized
  have S : CallFix p m c cX0_set 4 s ([.ref h, .int (nI i), .int (nI j), .int x] : List Value).toArray lw_all RX0 := ⟨hx, hb, hml, hown, hts⟩
  subst hsz
  have hD := hD0.self (sz := s.heap.size)
  generalize hAe : va_A (pdW h ad cs (nI n) rk co u v ro cl wy be dn) s.heap.size = A at hD ⊢
  have hA : ∀ q : Nat, s.heap.size ≤ q → A q := fun q h => by rw [← hAe]; exact Or.inr h
  have hS : va_S A s.heap s.heap [] := va_S.rf
  have hl := lv_entry ([.ref h, .int (nI i), .int (nI j), .int x]) (n := 4) (Nat.le_of_ble_eq_true rfl)
  rw [lg_entry_eq]
  generalize (lg_sl ([.ref h, .int (nI i), .int (nI j), .int x]) ++ List.replicate (4 - (lg_sl ([.ref h, .int (nI i), .int (nI j), .int x])).length) Slot.unset).toArray = ls at hl ⊢
  have hl : lv_has ls 4 [(0, .ref h), (1, .int (nI i)), (2, .int (nI j)), (3, .int x)] := hl
  refine lv_iload_n hx hb dX0_set_0 rfl (lv_at hl 2 rfl) ?_
  refine lv_aload_n hx hb dX0_set_1 rfl (lv_at hl 0 rfl) ?_
  refine pd_g_nn S hK hP dX0_set_2 ?_
  refine pn_ge (tgt := 20) hx hb (by omega) (by omega) dX0_set_5 (by decide) (fun q => ?_) (fun q => ?_)
  · have e : pd_set n co i j x = co := if_neg (by omega)
    exact W.vret hx hb hr (fun t ht hW => ⟨⟨(), rfl, trivial, by rw [ht, e]; exact hP, by rw [e]; exact hD⟩, hS.F ht⟩) hS.2.2 dX0_set_20
  · refine lv_aload_n hx hb dX0_set_8 rfl (lv_at hl 0 rfl) ?_
    refine pd_g_co S hK hP dX0_set_9 ?_
    refine lv_bipush (v := nI 8) hx hb dX0_set_12 (by decide) ?_
    refine lv_iload_n hx hb dX0_set_14 rfl (lv_at hl 1 rfl) ?_
    refine lv_imul hx hb dX0_set_15 ?_
    refine lv_iload_n hx hb dX0_set_16 rfl (lv_at hl 2 rfl) ?_
    refine lv_iadd hx hb dX0_set_17 ?_
    refine pr_eqi (y := nI (8 * i + j)) (by rw [pk_mul, nI_add]) ?_
    refine lv_iload_n hx hb dX0_set_18 rfl (lv_at hl 3 rfl) ?_
    refine pd_st_co S hK hP hD hS (by omega) dX0_set_19 (fun H locs hP hD hS => ?_)
    have e : pd_set n co i j x = upd co (8 * i + j) x := if_pos q
    exact W.vret hx hb hr (fun t ht hW => ⟨⟨(), rfl, trivial, by rw [ht, e]; exact hP, by rw [e]; exact hD⟩, hS.F ht⟩) hS.2.2 dX0_set_20
section SETR
variable {p : Program} {l : Launch} {e : Env} {R : Room} {s : State} {m : MethodId} {args : Array Value} {below : List Frame} {meth : Method} {c : Code} {H : Heap} {locs : List Loc} {cells slots : Nat} {Q : State → Prop}
variable {pc : Nat} {ls : Array Slot} {rest : List Value} {dC : Nat → ClassId} {dI : Nat → Nat → Nat} {A : Nat → Prop} {nL : Nat}
variable {cc : ByteArray}
variable {h : Nat} {ad : Nat → Nat} {cs : Nat → ClassId} {nn rk : Int32} {co : Nat → Int32} {u v : Nat → Int64} {ro cl : Nat → Int32} {wy : Nat → Int64} {be dn : Nat → Int32}
set_option maxHeartbeats 4000000 in
set_option maxRecDepth 100000 in
theorem pd_cset {n : Nat} (S : CallFix p m c cc nL s args lw_all RX0) (hR : 1 ≤ R.frames ∧ 30 ≤ R.locals) (hf : cells ≤ R.cells ∧ slots ≤ R.slots) (hA : ∀ q : Nat, s.heap.size ≤ q → A q) (hK : va_K (dC, dI) vwCl (pdT cs) s) (hP : va_P (dC, dI) vwCl (pdW h ad cs (nI n) rk co u v ro cl wy be dn) H) (hD : va_D A (pdW h ad cs (nI n) rk co u v ro cl wy be dn)) (hS : va_S A s.heap H locs) (hsz : ls.size = nL) {i j : Nat} {x : Int32} (hn : n ≤ 8) (hi : i < 8) (hj : j < 8) (hrs : (rest.map fun v => v.category).sum ≤ 8) (hdg : decode cc pc = .ok (.invokevirtual 53, 3))
    (kk : ∀ (H1 : Heap) (locs1 : List Loc), va_P (dC, dI) vwCl (pdW h ad cs (nI n) rk (pd_set n co i j x) u v ro cl wy be dn) H1 → va_D A (pdW h ad cs (nI n) rk (pd_set n co i j x) u v ro cl wy be dn) → va_S A s.heap H1 locs1 → W p l e R s m args below meth c H1 locs1 cells slots Q (F0 m (pc + 3) ls rest)) : W p l e R s m args below meth c H locs cells slots Q (F0 m pc ls (.int x :: .int (nI j) :: .int (nI i) :: .ref h :: rest)) := by
  refine pd_cVv (wr := []) S (met_set l dC dI h ad cs rk co u v ro cl wy be dn n i j x hn hi hj H.size) (cwV 3 S.2.2.2.2 (lw_V q64 q66 qs0 q7 q67) rfl rfl rfl (by decide +kernel) ⟨by have := hR.1; omega, by show 8 + (_ + 11) + 0 ≤ _; have := hR.2; omega⟩) hf hA hK hP pd_nil (pd_an hD) hS (va_recv hK hP (ci := 0) (q0 := 0) rfl rfl) rfl hsz rfl hrs hdg (fun _ H1 locs1 hw hP1 _ hD1 hS1 => ?_)
  exact kk H1 locs1 hP1 (pd_na hD1) hS1
end SETR
def pd_ni (k : Int32) : Nat := 1 + k.toBitVec.toNat % 8
def pd_ri (row : Int32) (n : Nat) : Nat := (row >>> (nI 1 &&& 31)).toBitVec.toNat % 2 ^ 30 % n
def pd_fi (row : Int32) : Nat := 4 * (row.toBitVec.toNat % 2)
def pd_gi (row : Int32) (n : Nat) : Nat := row.toBitVec.toNat % 2 ^ 31 % n
theorem pd_ni_e (k : Int32) : nI 1 + (k &&& nI 7) = nI (pd_ni k) := by
  rw [pk_and k 3 (by decide), nI_add]
  rfl
theorem pd_ri_e (row : Int32) {n : Nat} (h0 : 0 < n) (hn : n ≤ 8) : ((row >>> (nI 1 &&& 31)) &&& 1073741823) - ((row >>> (nI 1 &&& 31)) &&& 1073741823) / nI n * nI n = nI (pd_ri row n) := by
  rw [pk_and _ (m := 1073741823) 30 (by decide), pk_rem (by have := Nat.mod_lt (row >>> (nI 1 &&& 31)).toBitVec.toNat (show 0 < 2 ^ 30 by decide); omega) h0 (by omega)]
  rfl
theorem pd_fi_e (row : Int32) : nI 4 * (row &&& nI 1) = nI (pd_fi row) := by
  rw [pk_and row 1 (by decide), pk_mul]
  rfl
theorem pd_gi_e (row : Int32) {n : Nat} (h0 : 0 < n) (hn : n ≤ 8) : (row &&& 2147483647) - (row &&& 2147483647) / nI n * nI n = nI (pd_gi row n) := by
  rw [pk_and _ (m := 2147483647) 31 (by decide), pk_rem (by have := Nat.mod_lt row.toBitVec.toNat (show 0 < 2 ^ 31 by decide); omega) h0 (by omega)]
  rfl
theorem pd_ni_in (k : Int32) : 0 < pd_ni k ∧ pd_ni k ≤ 8 := by
  unfold pd_ni
  omega
theorem pd_ri_lt (row : Int32) {n : Nat} (h0 : 0 < n) : pd_ri row n < n := Nat.mod_lt _ h0
theorem pd_gi_lt (row : Int32) {n : Nat} (h0 : 0 < n) : pd_gi row n < n := Nat.mod_lt _ h0
theorem pd_fi_in (row : Int32) : pd_fi row + 3 < 8 := by
  unfold pd_fi
  omega
set_option maxHeartbeats 4000000 in
set_option maxRecDepth 100000 in
theorem met_size (l : Launch) (dC : Nat → ClassId) (dI : Nat → Nat → Nat) (h : Nat) (ad : Nat → Nat) (cs : Nat → ClassId) (nn rk : Int32) (co : Nat → Int32) (u v : Nat → Int64) (ro cl : Nat → Int32) (wy : Nat → Int64) (be dn : Nat → Int32) (k : Int32) (sz : Nat) : Met l yX0_size (ws_ yX0_size cX0_size 2 none) ({ frames := 1, cells := 0, slots := 0, locals := 30 } : Room) (va_Pc [.ref h, .int k] (pdPre dC dI (pdT cs) sz (pdW h ad cs nn rk co u v ro cl wy be dn))) (va_Qv (fun (g : Nat → Int32) => ∀ j, j < 64 → g j = 0) (fun g t => pdPost dC dI (va_A (pdW h ad cs nn rk co u v ro cl wy be dn) sz) (pdW h ad cs (nI (pd_ni k)) 0 g u v ro cl wy be dn) t) (va_A (pdW h ad cs nn rk co u v ro cl wy be dn) sz)) 0 0 (va_A (pdW h ad cs nn rk co u v ro cl wy be dn) sz) := by
  refine Met.ofW (cc := cX0_size) (maxL := 2) (ret := none) (by decide) rfl ?_
  intro p e s m args below meth c s₁ B hml hv
  obtain ⟨rfl, hsz, hP, hK, hD0⟩ := hv
  have hx := B.exec
  have hb := B.bytes
  have hr := B.returns
  have hts0 := atoms_spec (ws := ws_ yX0_size cX0_size 2 none) B.pre
  have hts : ∀ w ∈ lw_all, w.before _ s = true := fun w h => hts0 w (List.mem_cons_of_mem _ h)
  have hown : s.vm.findClass RX0 = some m.cls := findClass_of_methodNamed B.named
  have hlocks := B.notSynchronized
  have S : CallFix p m c cX0_size 2 s ([.ref h, .int k] : List Value).toArray lw_all RX0 := ⟨hx, hb, hml, hown, hts⟩
  subst hsz
  have hD := hD0.self (sz := s.heap.size)
  generalize hAe : va_A (pdW h ad cs nn rk co u v ro cl wy be dn) s.heap.size = A at hD ⊢
  have hA : ∀ q : Nat, s.heap.size ≤ q → A q := fun q h => by rw [← hAe]; exact Or.inr h
  have hS : va_S A s.heap s.heap [] := va_S.rf
  have hl := lv_entry ([.ref h, .int k]) (n := 2) (Nat.le_of_ble_eq_true rfl)
  rw [lg_entry_eq]
  generalize (lg_sl ([.ref h, .int k]) ++ List.replicate (2 - (lg_sl ([.ref h, .int k])).length) Slot.unset).toArray = ls at hl ⊢
  have hl : lv_has ls 2 [(0, .ref h), (1, .int k)] := hl
  refine lv_aload_n hx hb dX0_size_0 rfl (lv_at hl 0 rfl) ?_
  refine lv_iconst (v := nI 1) hx hb dX0_size_1 (by decide) ?_
  refine lv_iload_n hx hb dX0_size_2 rfl (lv_at hl 1 rfl) ?_
  refine lv_bipush (v := nI 7) hx hb dX0_size_3 (by decide) ?_
  refine lv_iand hx hb dX0_size_5 ?_
  refine lv_iadd hx hb dX0_size_6 ?_
  refine pr_eqi (y := nI (pd_ni k)) (pd_ni_e k) ?_
  refine pd_p_nn S hK hP hD hS rfl rfl dX0_size_7 (fun H locs hP hD hS => ?_)
  refine lv_aload_n hx hb dX0_size_10 rfl (lv_at hl 0 rfl) ?_
  refine pd_g_co S hK hP dX0_size_11 ?_
  refine lv_iconst (v := 0) hx hb dX0_size_14 (by decide) ?_
  refine pd_fill_co S ⟨Nat.le_refl _, Nat.le_refl _⟩ ⟨Nat.le_refl _, Nat.le_refl _⟩ hA hK hP hD hS hl.1 dX0_size_15 (fun g H locs hg hP hD hS => ?_)
  refine lv_aload_n hx hb dX0_size_18 rfl (lv_at hl 0 rfl) ?_
  refine lv_iconst (v := 0) hx hb dX0_size_19 (by decide) ?_
  refine pd_p_rk S hK hP hD hS rfl rfl dX0_size_20 (fun H locs hP hD hS => ?_)
  exact W.vret hx hb hr (fun t ht hW => ⟨⟨g, rfl, hg, by rw [ht]; exact hP, hD⟩, hS.F ht⟩) hS.2.2 dX0_size_23
def pd_cs (n : Nat) (co : Nat → Int32) (k x1 x2 x3 x4 : Int32) : Nat → Int32 := pd_set n (pd_set n (pd_set n (pd_set n co (pd_ri k n) (pd_fi k) x1) (pd_ri k n) (pd_fi k + 1) x2) (pd_ri k n) (pd_fi k + 2) x3) (pd_ri k n) (pd_fi k + 3) x4
set_option maxHeartbeats 4000000 in
set_option maxRecDepth 100000 in
theorem met_cost (l : Launch) (dC : Nat → ClassId) (dI : Nat → Nat → Nat) (h : Nat) (ad : Nat → Nat) (cs : Nat → ClassId) (rk : Int32) (co : Nat → Int32) (u v : Nat → Int64) (ro cl : Nat → Int32) (wy : Nat → Int64) (be dn : Nat → Int32) (n : Nat) (k x1 x2 x3 x4 : Int32) (h0 : 0 < n) (hn : n ≤ 8) (sz : Nat) : Met l yX0_cost (ws_ yX0_cost cX0_cost 8 none) ({ frames := 1, cells := 0, slots := 0, locals := 30 } : Room) (va_Pc [.ref h, .int k, .int x1, .int x2, .int x3, .int x4] (pdPre dC dI (pdT cs) sz (pdW h ad cs (nI n) rk co u v ro cl wy be dn))) (va_Qv (fun (_ : Unit) => True) (fun _ t => pdPost dC dI (va_A (pdW h ad cs (nI n) rk co u v ro cl wy be dn) sz) (pdW h ad cs (nI n) 0 (pd_cs n co k x1 x2 x3 x4) u v ro cl wy be dn) t) (va_A (pdW h ad cs (nI n) rk co u v ro cl wy be dn) sz)) 0 0 (va_A (pdW h ad cs (nI n) rk co u v ro cl wy be dn) sz) := by
  refine Met.ofW (cc := cX0_cost) (maxL := 8) (ret := none) (by decide) rfl ?_
  intro p e s m args below meth c s₁ B hml hv
  obtain ⟨rfl, hsz, hP, hK, hD0⟩ := hv
  have hx := B.exec
  have hb := B.bytes
  have hr := B.returns
  have hts0 := atoms_spec (ws := ws_ yX0_cost cX0_cost 8 none) B.pre
  have hts : ∀ w ∈ lw_all, w.before _ s = true := fun w h => hts0 w (List.mem_cons_of_mem _ h)
  have hown : s.vm.findClass RX0 = some m.cls := findClass_of_methodNamed B.named
  have hlocks := B.notSynchronized
  have S : CallFix p m c cX0_cost 8 s ([.ref h, .int k, .int x1, .int x2, .int x3, .int x4] : List Value).toArray lw_all RX0 := ⟨hx, hb, hml, hown, hts⟩
  subst hsz
  have hD := hD0.self (sz := s.heap.size)
  generalize hAe : va_A (pdW h ad cs (nI n) rk co u v ro cl wy be dn) s.heap.size = A at hD ⊢
  have hA : ∀ q : Nat, s.heap.size ≤ q → A q := fun q h => by rw [← hAe]; exact Or.inr h
  have hS : va_S A s.heap s.heap [] := va_S.rf
  have hl := lv_entry ([.ref h, .int k, .int x1, .int x2, .int x3, .int x4]) (n := 8) (Nat.le_of_ble_eq_true rfl)
  rw [lg_entry_eq]
  generalize (lg_sl ([.ref h, .int k, .int x1, .int x2, .int x3, .int x4]) ++ List.replicate (8 - (lg_sl ([.ref h, .int k, .int x1, .int x2, .int x3, .int x4])).length) Slot.unset).toArray = ls at hl ⊢
  have hl : lv_has ls 8 [(0, .ref h), (1, .int k), (2, .int x1), (3, .int x2), (4, .int x3), (5, .int x4)] := hl
  have hri := pd_ri_lt k h0
  have hfi := pd_fi_in k
  refine lv_iload_n hx hb dX0_cost_0 rfl (lv_at hl 1 rfl) ?_
  refine lv_iconst (v := nI 1) hx hb dX0_cost_1 (by decide) ?_
  refine lv_ishr hx hb dX0_cost_2 ?_
  refine lv_ldc (v := 1073741823) hx hb hown (hts _ q63) dX0_cost_3 ?_
  refine lv_iand hx hb dX0_cost_5 ?_
  refine lv_aload_n hx hb dX0_cost_6 rfl (lv_at hl 0 rfl) ?_
  refine pd_g_nn S hK hP dX0_cost_7 ?_
  refine lv_irem hx hb dX0_cost_10 (nI_ne0 h0 (by omega)) ?_
  refine pr_eqi (y := nI (pd_ri k n)) (pd_ri_e k h0 hn) ?_
  refine lv_istore (lv' := [(6, .int (nI (pd_ri k n))), (0, .ref h), (1, .int k), (2, .int x1), (3, .int x2), (4, .int x3), (5, .int x4)]) hx hb dX0_cost_11 hl (by decide) rfl (fun ls hl => ?_)
  refine lv_iconst (v := nI 4) hx hb dX0_cost_13 (by decide) ?_
  refine lv_iload_n hx hb dX0_cost_14 rfl (lv_at hl 2 rfl) ?_
  refine lv_iconst (v := nI 1) hx hb dX0_cost_15 (by decide) ?_
  refine lv_iand hx hb dX0_cost_16 ?_
  refine lv_imul hx hb dX0_cost_17 ?_
  refine pr_eqi (y := nI (pd_fi k)) (pd_fi_e k) ?_
  refine lv_istore (lv' := [(7, .int (nI (pd_fi k))), (6, .int (nI (pd_ri k n))), (0, .ref h), (1, .int k), (2, .int x1), (3, .int x2), (4, .int x3), (5, .int x4)]) hx hb dX0_cost_18 hl (by decide) rfl (fun ls hl => ?_)
  refine lv_aload_n hx hb dX0_cost_20 rfl (lv_at hl 2 rfl) ?_
  refine lv_iload hx hb dX0_cost_21 (lv_at hl 1 rfl) ?_
  refine lv_iload hx hb dX0_cost_23 (lv_at hl 0 rfl) ?_
  refine lv_iload_n hx hb dX0_cost_25 rfl (lv_at hl 4 rfl) ?_
  refine pd_cset S ⟨Nat.le_refl _, Nat.le_refl _⟩ ⟨Nat.le_refl _, Nat.le_refl _⟩ hA hK hP hD hS hl.1 hn (by omega) (by omega) (Nat.le_of_ble_eq_true rfl) dX0_cost_26 (fun H locs hP hD hS => ?_)
  refine lv_aload_n hx hb dX0_cost_29 rfl (lv_at hl 2 rfl) ?_
  refine lv_iload hx hb dX0_cost_30 (lv_at hl 1 rfl) ?_
  refine lv_iload hx hb dX0_cost_32 (lv_at hl 0 rfl) ?_
  refine lv_iconst (v := nI 1) hx hb dX0_cost_34 (by decide) ?_
  refine lv_iadd hx hb dX0_cost_35 ?_
  refine pr_eqi (y := nI (pd_fi k + 1)) (nI_add _ _) ?_
  refine lv_iload_n hx hb dX0_cost_36 rfl (lv_at hl 5 rfl) ?_
  refine pd_cset S ⟨Nat.le_refl _, Nat.le_refl _⟩ ⟨Nat.le_refl _, Nat.le_refl _⟩ hA hK hP hD hS hl.1 hn (by omega) (by omega) (Nat.le_of_ble_eq_true rfl) dX0_cost_37 (fun H locs hP hD hS => ?_)
  refine lv_aload_n hx hb dX0_cost_40 rfl (lv_at hl 2 rfl) ?_
  refine lv_iload hx hb dX0_cost_41 (lv_at hl 1 rfl) ?_
  refine lv_iload hx hb dX0_cost_43 (lv_at hl 0 rfl) ?_
  refine lv_iconst (v := nI 2) hx hb dX0_cost_45 (by decide) ?_
  refine lv_iadd hx hb dX0_cost_46 ?_
  refine pr_eqi (y := nI (pd_fi k + 2)) (nI_add _ _) ?_
  refine lv_iload hx hb dX0_cost_47 (lv_at hl 6 rfl) ?_
  refine pd_cset S ⟨Nat.le_refl _, Nat.le_refl _⟩ ⟨Nat.le_refl _, Nat.le_refl _⟩ hA hK hP hD hS hl.1 hn (by omega) (by omega) (Nat.le_of_ble_eq_true rfl) dX0_cost_49 (fun H locs hP hD hS => ?_)
  refine lv_aload_n hx hb dX0_cost_52 rfl (lv_at hl 2 rfl) ?_
  refine lv_iload hx hb dX0_cost_53 (lv_at hl 1 rfl) ?_
  refine lv_iload hx hb dX0_cost_55 (lv_at hl 0 rfl) ?_
  refine lv_iconst (v := nI 3) hx hb dX0_cost_57 (by decide) ?_
  refine lv_iadd hx hb dX0_cost_58 ?_
  refine pr_eqi (y := nI (pd_fi k + 3)) (nI_add _ _) ?_
  refine lv_iload hx hb dX0_cost_59 (lv_at hl 7 rfl) ?_
  refine pd_cset S ⟨Nat.le_refl _, Nat.le_refl _⟩ ⟨Nat.le_refl _, Nat.le_refl _⟩ hA hK hP hD hS hl.1 hn (by omega) (by omega) (Nat.le_of_ble_eq_true rfl) dX0_cost_61 (fun H locs hP hD hS => ?_)
  refine lv_aload_n hx hb dX0_cost_64 rfl (lv_at hl 2 rfl) ?_
  refine lv_iconst (v := 0) hx hb dX0_cost_65 (by decide) ?_
  refine pd_p_rk S hK hP hD hS rfl rfl dX0_cost_66 (fun H locs hP hD hS => ?_)
  exact W.vret hx hb hr (fun t ht hW => ⟨⟨(), rfl, trivial, by rw [ht]; exact hP, hD⟩, hS.F ht⟩) hS.2.2 dX0_cost_69
set_option maxHeartbeats 4000000 in
set_option maxRecDepth 100000 in
theorem met_given (l : Launch) (dC : Nat → ClassId) (dI : Nat → Nat → Nat) (h : Nat) (ad : Nat → Nat) (cs : Nat → ClassId) (rk : Int32) (co : Nat → Int32) (u v : Nat → Int64) (ro cl : Nat → Int32) (wy : Nat → Int64) (be dn : Nat → Int32) (n : Nat) (k : Int32) (h0 : 0 < n) (hn : n ≤ 8) (sz : Nat) : Met l yX0_given (ws_ yX0_given cX0_given 2 (some .int)) ({ frames := 0, cells := 0, slots := 0, locals := 0 } : Room) (va_Pc [.ref h, .int k] (pdPre dC dI (pdT cs) sz (pdW h ad cs (nI n) rk co u v ro cl wy be dn))) (va_Qi (fun (r : Int32) (_ : Unit) => r = if rk = 0 then -1 else cl (pd_gi k n)) (fun _ t => pdPost dC dI (va_A (pdW h ad cs (nI n) rk co u v ro cl wy be dn) sz) (pdW h ad cs (nI n) rk co u v ro cl wy be dn) t) (va_A (pdW h ad cs (nI n) rk co u v ro cl wy be dn) sz)) 0 0 (va_A (pdW h ad cs (nI n) rk co u v ro cl wy be dn) sz) := by
  refine Met.ofW (cc := cX0_given) (maxL := 2) (ret := some .int) (by decide) rfl ?_
  intro p e s m args below meth c s₁ B hml hv
  obtain ⟨rfl, hsz, hP, hK, hD0⟩ := hv
  have hx := B.exec
  have hb := B.bytes
  have hr := B.returns
  have hts0 := atoms_spec (ws := ws_ yX0_given cX0_given 2 (some .int)) B.pre
  have hts : ∀ w ∈ lw_all, w.before _ s = true := fun w h => hts0 w (List.mem_cons_of_mem _ h)
  have hown : s.vm.findClass RX0 = some m.cls := findClass_of_methodNamed B.named
  have hlocks := B.notSynchronized
  have S : CallFix p m c cX0_given 2 s ([.ref h, .int k] : List Value).toArray lw_all RX0 := ⟨hx, hb, hml, hown, hts⟩
  subst hsz
  have hD := hD0.self (sz := s.heap.size)
  generalize hAe : va_A (pdW h ad cs (nI n) rk co u v ro cl wy be dn) s.heap.size = A at hD ⊢
  have hA : ∀ q : Nat, s.heap.size ≤ q → A q := fun q h => by rw [← hAe]; exact Or.inr h
  have hS : va_S A s.heap s.heap [] := va_S.rf
  have hl := lv_entry ([.ref h, .int k]) (n := 2) (Nat.le_of_ble_eq_true rfl)
  rw [lg_entry_eq]
  generalize (lg_sl ([.ref h, .int k]) ++ List.replicate (2 - (lg_sl ([.ref h, .int k])).length) Slot.unset).toArray = ls at hl ⊢
  have hl : lv_has ls 2 [(0, .ref h), (1, .int k)] := hl
  have hgi := pd_gi_lt k h0
  refine lv_aload_n hx hb dX0_given_0 rfl (lv_at hl 0 rfl) ?_
  refine pd_g_rk S hK hP dX0_given_1 ?_
  refine lv_if_eq (tgt := 24) hx hb dX0_given_4 (by decide) (fun q => ?_) (fun q => ?_)
  · refine lv_iconst (v := -1) hx hb dX0_given_24 (by decide) ?_
    exact W.iret hx hb hr (fun t ht hW => ⟨⟨_, (), rfl, (if_pos q).symm, by rw [ht]; exact hP, hD⟩, hS.F ht⟩) hS.2.2 dX0_given_25
  · refine lv_aload_n hx hb dX0_given_7 rfl (lv_at hl 0 rfl) ?_
    refine pd_g_cl S hK hP dX0_given_8 ?_
    refine lv_iload_n hx hb dX0_given_11 rfl (lv_at hl 1 rfl) ?_
    refine lv_ldc (v := 2147483647) hx hb hown (hts _ q99) dX0_given_12 ?_
    refine lv_iand hx hb dX0_given_14 ?_
    refine lv_aload_n hx hb dX0_given_15 rfl (lv_at hl 0 rfl) ?_
    refine pd_g_nn S hK hP dX0_given_16 ?_
    refine lv_irem hx hb dX0_given_19 (nI_ne0 h0 (by omega)) ?_
    refine pr_eqi (y := nI (pd_gi k n)) (pd_gi_e k h0 hn) ?_
    refine pd_ld_cl S hK hP (by omega) dX0_given_20 ?_
    refine lv_goto (tgt := 25) hx hb dX0_given_21 (by decide) ?_
    exact W.iret hx hb hr (fun t ht hW => ⟨⟨_, (), rfl, (if_neg q).symm, by rw [ht]; exact hP, hD⟩, hS.F ht⟩) hS.2.2 dX0_given_25
end
section
/-! find, by the number of columns that are not done -/
set_option maxRecDepth 100000
/-- the potentials are small -/
def pl_bnd (n : Nat) (u v : Nat → Int64) : Prop := (∀ r, r < n → -8589934592 ≤ (u r).toInt ∧ (u r).toInt ≤ 8589934592) ∧ ∀ c, c < n → -8589934592 ≤ (v c).toInt ∧ (v c).toInt ≤ 8589934592
abbrev pl_t (co : Nat → Int32) (u v : Nat → Int64) : Nat → Nat → Prop := fun r c => pl_ov co u v r c = 0
theorem pl_t0 {n : Nat} {co : Nat → Int32} {u v : Nat → Int64} {x k : Nat} (hb : pl_bnd n u v) (hx : x < n) (hk : k < n) : ((co (8 * x + k)).toInt64 - u x - v k = 0) ↔ pl_t co u v x k := by
  have e : ((co (8 * x + k)).toInt64 - u x - v k).toInt = pl_ov co u v x k := pl_ov64 (hb.1 x hx) (hb.2 k hk)
  constructor
  · intro h
    rw [h] at e
    show pl_ov co u v x k = 0
    rw [← e]
    decide
  · intro h
    have h : pl_ov co u v x k = 0 := h
    rw [h] at e
    exact Int64.toInt_inj.mp (e.trans (by decide))
section FIND
variable {p : Program} {l : Launch} {e : Env} {R : Room} {s : State} {m : MethodId} {args : Array Value} {below : List Frame} {meth : Method} {c : Code} {H : Heap} {locs : List Loc} {cells slots : Nat} {Q : State → Prop}
variable {pc : Nat} {ls : Array Slot} {rest : List Value} {dC : Nat → ClassId} {dI : Nat → Nat → Nat} {A : Nat → Prop} {nL : Nat}
variable {h : Nat} {ad : Nat → Nat} {cs : Nat → ClassId} {nn rk : Int32} {co : Nat → Int32} {u v : Nat → Int64} {ro cl : Nat → Int32} {wy : Nat → Int64} {be dn : Nat → Int32}
set_option maxHeartbeats 4000000 in
set_option maxRecDepth 100000 in
theorem find_loop {n x fr D : Nat} (S : CallFix p m c cX0_find 4 s args lw_all RX0) (hR : 1 ≤ R.frames ∧ 30 ≤ R.locals) (hR2 : D + 1 + 1 ≤ R.frames ∧ 23 + (30 + 23 * D) ≤ R.locals) (hf : cells ≤ R.cells ∧ slots ≤ R.slots) (hA : ∀ q : Nat, s.heap.size ≤ q → A q) (hK : va_K (dC, dI) vwCl (pdT cs) s) (hn : n ≤ 8) (hbd : pl_bnd n u v) (hpre : fd_pre n x fr dn ro cl) (hu : fd_u dn n ≤ D + 1)
    (hrec : ∀ (y : Nat) (d : Nat → Int32) (sz : Nat), fd_pre n y fr d ro cl → fd_u d n ≤ D → Met l yX0_find (ws_ yX0_find cX0_find 4 (some .boolean)) ({ frames := D + 1, cells := 0, slots := 0, locals := 30 + 23 * D } : Room) (va_Pc [.ref h, .int (nI y), .int (nI fr)] (pdPre dC dI (pdT cs) sz (pdW h ad cs (nI n) rk co u v ro cl wy be d))) (va_Qi (fun (r : Int32) (g : (Nat → Int32) × (Nat → Int32) × (Nat → Int32)) => (r = 0 ∧ g.1 = ro ∧ g.2.1 = cl ∧ fd_no (pl_t co u v) n y fr d g.2.2 ro) ∨ (r = 1 ∧ fd_ok (pl_t co u v) n y fr d ro cl g.1 g.2.1)) (fun g t => pdPost dC dI (va_A (pdW h ad cs (nI n) rk co u v ro cl wy be d) sz) (pdW h ad cs (nI n) rk co u v g.1 g.2.1 wy be g.2.2) t) (va_A (pdW h ad cs (nI n) rk co u v ro cl wy be d) sz)) 0 0 (va_A (pdW h ad cs (nI n) rk co u v ro cl wy be d) sz))
    (k0 : ∀ (d : Nat → Int32) (H : Heap) (locs : List Loc) (ls : Array Slot), fd_in (pl_t co u v) n x fr dn d ro n → va_P (dC, dI) vwCl (pdW h ad cs (nI n) rk co u v ro cl wy be d) H → va_D A (pdW h ad cs (nI n) rk co u v ro cl wy be d) → va_S A s.heap H locs → W p l e R s m args below meth c H locs cells slots Q (F0 m 84 ls []))
    (k1 : ∀ (ro1 cl1 d : Nat → Int32) (H : Heap) (locs : List Loc) (ls : Array Slot), fd_ok (pl_t co u v) n x fr dn ro cl ro1 cl1 → va_P (dC, dI) vwCl (pdW h ad cs (nI n) rk co u v ro1 cl1 wy be d) H → va_D A (pdW h ad cs (nI n) rk co u v ro1 cl1 wy be d) → va_S A s.heap H locs → W p l e R s m args below meth c H locs cells slots Q (F0 m 76 ls [])) :
    ∀ (j k : Nat) (d : Nat → Int32) (H : Heap) (locs : List Loc) (ls : Array Slot), k + j = n → fd_in (pl_t co u v) n x fr dn d ro k → va_P (dC, dI) vwCl (pdW h ad cs (nI n) rk co u v ro cl wy be d) H → va_D A (pdW h ad cs (nI n) rk co u v ro cl wy be d) → va_S A s.heap H locs → lv_has ls 4 [(0, .ref h), (1, .int (nI x)), (2, .int (nI fr)), (3, .int (nI k))] → W p l e R s m args below meth c H locs cells slots Q (F0 m 2 ls []) := by
  obtain ⟨hx, hb, hml, hown, hts⟩ := id S
  have hxn : x < n := hpre.1
  have hfn : fr < n := hpre.2.1
  intro j
  induction j with
  | zero =>
    intro k d H locs ls hk hin hP hD hS hl
    refine lv_iload_n hx hb dX0_find_2 rfl (lv_at hl 3 rfl) ?_
    refine lv_aload_n hx hb dX0_find_3 rfl (lv_at hl 0 rfl) ?_
    refine pd_g_nn S hK hP dX0_find_4 ?_
    refine pn_ge (tgt := 84) hx hb (by omega) (by omega) dX0_find_7 (by decide) (fun q => ?_) (fun q => ?_)
    · have e : k = n := by omega
      subst e
      exact k0 d H locs ls hin hP hD hS
    · omega
  | succ j ih =>
    intro k d H locs ls hk hin hP hD hS hl
    refine lv_iload_n hx hb dX0_find_2 rfl (lv_at hl 3 rfl) ?_
    refine lv_aload_n hx hb dX0_find_3 rfl (lv_at hl 0 rfl) ?_
    refine pd_g_nn S hK hP dX0_find_4 ?_
    refine pn_ge (tgt := 84) hx hb (by omega) (by omega) dX0_find_7 (by decide) (fun q => ?_) (fun q => ?_)
    · omega
    · refine lv_aload_n hx hb dX0_find_10 rfl (lv_at hl 0 rfl) ?_
      refine pd_g_dn S hK hP dX0_find_11 ?_
      refine lv_iload_n hx hb dX0_find_14 rfl (lv_at hl 3 rfl) ?_
      refine pd_ld_dn S hK hP (by omega) dX0_find_15 ?_
      refine lv_if_ne (tgt := 78) hx hb dX0_find_16 (by decide) (fun q2 => ?_) (fun q2 => ?_)
      · refine lv_iinc (v := nI (k + 1)) (lv' := [(3, .int (nI (k + 1))), (0, .ref h), (1, .int (nI x)), (2, .int (nI fr))]) hx hb dX0_find_78 hl (k := 3) rfl (nI_1 k) (by decide) rfl (fun ls hl => ?_)
        refine lv_goto (tgt := 2) hx hb dX0_find_81 (by decide) ?_
        exact ih (k + 1) d H locs ls (by omega) (fd_in_skip hin (fun _ => q2)) hP hD hS (lv_sub hl [1, 2, 3, 0] rfl)
      · refine lv_aload_n hx hb dX0_find_19 rfl (lv_at hl 0 rfl) ?_
        refine lv_iload_n hx hb dX0_find_20 rfl (lv_at hl 1 rfl) ?_
        refine lv_iload_n hx hb dX0_find_21 rfl (lv_at hl 3 rfl) ?_
        refine pd_over S hR hf hA hK hP hD hS hl.1 (by omega) (by omega) (Nat.le_of_ble_eq_true rfl) dX0_find_22 (fun H locs hP hD hS => ?_)
        refine lv_lconst (v := 0) hx hb dX0_find_25 (by decide) ?_
        refine W.lcmp hx hb dX0_find_26 ?_
        refine lv_if_eq (tgt := 33) hx hb dX0_find_27 (by decide) (fun q3 => ?_) (fun q3 => ?_)
        · have ht : pl_t co u v x k := (pl_t0 hbd hxn q).mp ((lg_cmp_eq _ _).mp q3)
          refine lv_aload_n hx hb dX0_find_33 rfl (lv_at hl 0 rfl) ?_
          refine pd_g_dn S hK hP dX0_find_34 ?_
          refine lv_iload_n hx hb dX0_find_37 rfl (lv_at hl 3 rfl) ?_
          refine lv_iconst (v := 1) hx hb dX0_find_38 (by decide) ?_
          refine pd_st_dn S hK hP hD hS (by omega) (by decide) dX0_find_39 (fun H locs hP hD hS => ?_)
          refine lv_iload_n hx hb dX0_find_40 rfl (lv_at hl 3 rfl) ?_
          refine lv_iload_n hx hb dX0_find_41 rfl (lv_at hl 2 rfl) ?_
          refine pn_eq (tgt := 62) hx hb (by omega) (by omega) dX0_find_42 (by decide) (fun q4 => ?_) (fun q4 => ?_)
          · subst q4
            refine lv_aload_n hx hb dX0_find_62 rfl (lv_at hl 0 rfl) ?_
            refine pd_g_ro S hK hP dX0_find_63 ?_
            refine lv_iload_n hx hb dX0_find_66 rfl (lv_at hl 3 rfl) ?_
            refine lv_iload_n hx hb dX0_find_67 rfl (lv_at hl 1 rfl) ?_
            refine pd_st_ro S hK hP hD hS (by omega) dX0_find_68 (fun H locs hP hD hS => ?_)
            refine lv_aload_n hx hb dX0_find_69 rfl (lv_at hl 0 rfl) ?_
            refine pd_g_cl S hK hP dX0_find_70 ?_
            refine lv_iload_n hx hb dX0_find_73 rfl (lv_at hl 1 rfl) ?_
            refine lv_iload_n hx hb dX0_find_74 rfl (lv_at hl 3 rfl) ?_
            refine pd_st_cl S hK hP hD hS (by omega) dX0_find_75 (fun H locs hP hD hS => ?_)
            exact k1 _ _ _ H locs ls (fd_ok_mono hn hpre hin.1 hin.2.1 (fd_ok_free (fd_pre_d hpre hin.1 hin.2.1) ht)) hP hD hS
          · obtain ⟨y, hy, ey, hyx, hyc⟩ := (fd_pre_d hpre hin.1 hin.2.1).2.2.2 k q q2 q4
            have hpi : fd_pre n y fr (upd d k 1) ro cl := fd_pre_in hn (fd_pre_d hpre hin.1 hin.2.1) q q2 q4 ey hy
            have hui : fd_u (upd d k 1) n ≤ D := by
              have h1 := fd_u_upd n q q2
              have h2 := fd_u_mono n hin.1
              omega
            refine lv_aload_n hx hb dX0_find_45 rfl (lv_at hl 0 rfl) ?_
            refine lv_aload_n hx hb dX0_find_46 rfl (lv_at hl 0 rfl) ?_
            refine pd_g_ro S hK hP dX0_find_47 ?_
            refine lv_iload_n hx hb dX0_find_50 rfl (lv_at hl 3 rfl) ?_
            refine pd_ld_ro S hK hP (by omega) dX0_find_51 ?_
            refine pr_eqi (y := nI y) (ey) ?_
            refine lv_iload_n hx hb dX0_find_52 rfl (lv_at hl 2 rfl) ?_
            refine pd_cVi (wr := []) S (hrec y (upd d k 1) H.size hpi hui) (cwV 2 S.2.2.2.2 (lw_V q91 q93 qs4 q7 q94) rfl rfl rfl (by decide +kernel) ⟨hR2.1, by show 8 + (4 + 11) + (30 + 23 * D) ≤ _; have := hR2.2; omega⟩) hf hA hK hP pd_nil (pd_an hD) hS (va_recv hK hP (ci := 0) (q0 := 0) rfl rfl) rfl hl.1 rfl (Nat.le_of_ble_eq_true rfl) dX0_find_53 (fun r g H locs hw hP _ hD hS => ?_)
            obtain ⟨ro1, cl1, d1⟩ := g
            have hP : va_P (dC, dI) vwCl (pdW h ad cs (nI n) rk co u v ro1 cl1 wy be d1) H := hP
            have hD : va_D A (pdW h ad cs (nI n) rk co u v ro1 cl1 wy be d1) := pd_na hD
            refine lv_if_ne (tgt := 62) hx hb dX0_find_56 (by decide) (fun q5 => ?_) (fun q5 => ?_)
            · have hok : fd_ok (pl_t co u v) n y fr (upd d k 1) ro cl ro1 cl1 := by
                rcases hw with hw | hw
                · exact absurd hw.1 q5
                · exact hw.2
              refine lv_aload_n hx hb dX0_find_62 rfl (lv_at hl 0 rfl) ?_
              refine pd_g_ro S hK hP dX0_find_63 ?_
              refine lv_iload_n hx hb dX0_find_66 rfl (lv_at hl 3 rfl) ?_
              refine lv_iload_n hx hb dX0_find_67 rfl (lv_at hl 1 rfl) ?_
              refine pd_st_ro S hK hP hD hS (by omega) dX0_find_68 (fun H locs hP hD hS => ?_)
              refine lv_aload_n hx hb dX0_find_69 rfl (lv_at hl 0 rfl) ?_
              refine pd_g_cl S hK hP dX0_find_70 ?_
              refine lv_iload_n hx hb dX0_find_73 rfl (lv_at hl 1 rfl) ?_
              refine lv_iload_n hx hb dX0_find_74 rfl (lv_at hl 3 rfl) ?_
              refine pd_st_cl S hK hP hD hS (by omega) dX0_find_75 (fun H locs hP hD hS => ?_)
              exact k1 _ _ _ H locs ls (fd_ok_mono hn hpre hin.1 hin.2.1 (fd_ok_rec hn (fd_pre_d hpre hin.1 hin.2.1) q q2 q4 ht ey hy hok)) hP hD hS
            · obtain ⟨-, e1, e2, hno⟩ : r = 0 ∧ ro1 = ro ∧ cl1 = cl ∧ fd_no (pl_t co u v) n y fr (upd d k 1) d1 ro := by
                rcases hw with hw | hw
                · exact hw
                · rw [hw.1] at q5
                  exact absurd q5 (by decide)
              rw [e1, e2] at hP hD
              refine lv_goto (tgt := 78) hx hb dX0_find_59 (by decide) ?_
              refine lv_iinc (v := nI (k + 1)) (lv' := [(3, .int (nI (k + 1))), (0, .ref h), (1, .int (nI x)), (2, .int (nI fr))]) hx hb dX0_find_78 hl (k := 3) rfl (nI_1 k) (by decide) rfl (fun ls hl => ?_)
              refine lv_goto (tgt := 2) hx hb dX0_find_81 (by decide) ?_
              exact ih (k + 1) d1 H locs ls (by omega) (fd_in_rec hin q hy ey hno) hP hD hS (lv_sub hl [1, 2, 3, 0] rfl)
        · refine lv_goto (tgt := 78) hx hb dX0_find_30 (by decide) ?_
          refine lv_iinc (v := nI (k + 1)) (lv' := [(3, .int (nI (k + 1))), (0, .ref h), (1, .int (nI x)), (2, .int (nI fr))]) hx hb dX0_find_78 hl (k := 3) rfl (nI_1 k) (by decide) rfl (fun ls hl => ?_)
          refine lv_goto (tgt := 2) hx hb dX0_find_81 (by decide) ?_
          exact ih (k + 1) d H locs ls (by omega) (fd_in_skip hin (fun w => absurd ((lg_cmp_eq _ _).mpr ((pl_t0 hbd hxn q).mpr w)) q3)) hP hD hS (lv_sub hl [1, 2, 3, 0] rfl)
end FIND
set_option maxHeartbeats 4000000 in
set_option maxRecDepth 100000 in
theorem met_find (l : Launch) (dC : Nat → ClassId) (dI : Nat → Nat → Nat) (h : Nat) (ad : Nat → Nat) (cs : Nat → ClassId) (rk : Int32) (co : Nat → Int32) (u v wy : Nat → Int64) (be : Nat → Int32) (n fr : Nat) (ro cl : Nat → Int32) (hn : n ≤ 8) (hbd : pl_bnd n u v) : ∀ (D : Nat) (x : Nat) (dn : Nat → Int32) (sz : Nat), fd_pre n x fr dn ro cl → fd_u dn n ≤ D → Met l yX0_find (ws_ yX0_find cX0_find 4 (some .boolean)) ({ frames := D + 1, cells := 0, slots := 0, locals := 30 + 23 * D } : Room) (va_Pc [.ref h, .int (nI x), .int (nI fr)] (pdPre dC dI (pdT cs) sz (pdW h ad cs (nI n) rk co u v ro cl wy be dn))) (va_Qi (fun (r : Int32) (g : (Nat → Int32) × (Nat → Int32) × (Nat → Int32)) => (r = 0 ∧ g.1 = ro ∧ g.2.1 = cl ∧ fd_no (pl_t co u v) n x fr dn g.2.2 ro) ∨ (r = 1 ∧ fd_ok (pl_t co u v) n x fr dn ro cl g.1 g.2.1)) (fun g t => pdPost dC dI (va_A (pdW h ad cs (nI n) rk co u v ro cl wy be dn) sz) (pdW h ad cs (nI n) rk co u v g.1 g.2.1 wy be g.2.2) t) (va_A (pdW h ad cs (nI n) rk co u v ro cl wy be dn) sz)) 0 0 (va_A (pdW h ad cs (nI n) rk co u v ro cl wy be dn) sz) := by
  intro D
  induction D with
  | zero =>
    intro x dn sz hpre hu
    have := fd_u_pos n hpre.2.1 hpre.2.2.1
    omega
  | succ D ih =>
  intro x dn sz hpre hu
  refine Met.ofW (cc := cX0_find) (maxL := 4) (ret := some .boolean) (by decide) rfl ?_
  intro p e s m args below meth c s₁ B hml hv
  obtain ⟨rfl, hsz, hP, hK, hD0⟩ := hv
  have hx := B.exec
  have hb := B.bytes
  have hr := B.returns
  have hts0 := atoms_spec (ws := ws_ yX0_find cX0_find 4 (some .boolean)) B.pre
  have hts : ∀ w ∈ lw_all, w.before _ s = true := fun w h => hts0 w (List.mem_cons_of_mem _ h)
  have hown : s.vm.findClass RX0 = some m.cls := findClass_of_methodNamed B.named
  have hlocks := B.notSynchronized
  have S : CallFix p m c cX0_find 4 s ([.ref h, .int (nI x), .int (nI fr)] : List Value).toArray lw_all RX0 := ⟨hx, hb, hml, hown, hts⟩
  subst hsz
  have hD := hD0.self (sz := s.heap.size)
  generalize hAe : va_A (pdW h ad cs (nI n) rk co u v ro cl wy be dn) s.heap.size = A at hD ⊢
  have hA : ∀ q : Nat, s.heap.size ≤ q → A q := fun q h => by rw [← hAe]; exact Or.inr h
  have hS : va_S A s.heap s.heap [] := va_S.rf
  have hl := lv_entry ([.ref h, .int (nI x), .int (nI fr)]) (n := 4) (Nat.le_of_ble_eq_true rfl)
  rw [lg_entry_eq]
  generalize (lg_sl ([.ref h, .int (nI x), .int (nI fr)]) ++ List.replicate (4 - (lg_sl ([.ref h, .int (nI x), .int (nI fr)])).length) Slot.unset).toArray = ls at hl ⊢
  have hl : lv_has ls 4 [(0, .ref h), (1, .int (nI x)), (2, .int (nI fr))] := hl
  refine lv_iconst (v := nI 0) hx hb dX0_find_0 (by decide) ?_
  refine lv_istore_n (lv' := [(3, .int (nI 0)), (0, .ref h), (1, .int (nI x)), (2, .int (nI fr))]) hx hb dX0_find_1 rfl hl (by decide) rfl (fun ls hl => ?_)
  refine find_loop (D := D) S ⟨by show 1 ≤ D + 1 + 1; omega, by show 30 ≤ 30 + 23 * (D + 1); omega⟩ ⟨Nat.le_refl _, by show 23 + (30 + 23 * D) ≤ 30 + 23 * (D + 1); omega⟩ ⟨Nat.le_refl _, Nat.le_refl _⟩ hA hK hn hbd hpre hu (fun y d sz h1 h2 => ih y d sz h1 h2) (fun d H locs ls hin hP hD hS => ?_) (fun ro1 cl1 d H locs ls hok hP hD hS => ?_) n 0 dn s.heap [] ls (by omega) (fd_in0 hpre.2.2.1) hP hD hS (lv_sub hl [1, 2, 3, 0] rfl)
  · refine lv_iconst (v := 0) hx hb dX0_find_84 (by decide) ?_
    exact W.zret (v := 0) hx hb hr rfl (fun t ht hW => ⟨⟨0, (ro, cl, d), rfl, Or.inl ⟨rfl, rfl, rfl, fd_in_end hin⟩, by rw [ht]; exact hP, hD⟩, hS.F ht⟩) hS.2.2 dX0_find_85
  · refine lv_iconst (v := 1) hx hb dX0_find_76 (by decide) ?_
    exact W.zret (v := 1) hx hb hr rfl (fun t ht hW => ⟨⟨1, (ro1, cl1, d), rfl, Or.inr ⟨rfl, hok⟩, by rw [ht]; exact hP, hD⟩, hS.F ht⟩) hS.2.2 dX0_find_77
end
section
/-! place -/
set_option maxRecDepth 100000
theorem pl_L0 {n row : Nat} {co : Nat → Int32} {u v : Nat → Int64} {ro : Nat → Int32} {wy : Nat → Int64} {be dn : Nat → Int32} (hn : n ≤ 8) (hrow : row < n) (h : pl_P n row co u v ro) (hw : ∀ c, c < 8 → wy c = 9223372036854775807) (hd : ∀ c, c < 9 → dn c = 0) : pl_R n row (upd ro 8 (nI row)) ∧ pl_L n row 8 co u v (upd ro 8 (nI row)) wy be dn := by
  obtain ⟨hR, hV, hu⟩ := h
  have e : ∀ c, c < n → upd ro 8 (nI row) c = ro c := fun c hc => pk_un (by omega)
  refine ⟨⟨fun c hc => ?_, fun r hr => ?_, fun c c' r hc hc' hr a b => ?_⟩, ⟨fun c hc => ?_, hV.2.1, fun c r hc hr a => ?_, hV.2.2.2⟩, ⟨Or.inl rfl, hd 8 (by omega), fun c hc hz => absurd (hd c (by omega)) hz⟩, Or.inl ⟨rfl, fun c hc => hd c (by omega), hw, hu (by omega)⟩⟩
  · rw [e c hc]
    exact hR.1 c hc
  · obtain ⟨c, hc, ec⟩ := hR.2.1 r hr
    exact ⟨c, hc, by rw [e c hc]; exact ec⟩
  · rw [e c hc] at a
    rw [e c' hc'] at b
    exact hR.2.2 c c' r hc hc' hr a b
  · rw [e c hc]
    exact hV.1 c hc
  · rw [e c hc] at a
    exact hV.2.2.1 c r hc hr a
theorem pl_nn {k : Nat} (h : k < 9) : ¬ (nI k < 0) := nI_pos (by omega)
section PLACE
variable {p : Program} {l : Launch} {e : Env} {R : Room} {s : State} {m : MethodId} {args : Array Value} {below : List Frame} {meth : Method} {c : Code} {H : Heap} {locs : List Loc} {cells slots : Nat} {Q : State → Prop}
variable {pc : Nat} {ls : Array Slot} {rest : List Value} {dC : Nat → ClassId} {dI : Nat → Nat → Nat} {A : Nat → Prop} {nL : Nat}
variable {h : Nat} {ad : Nat → Nat} {cs : Nat → ClassId} {nn rk : Int32} {co : Nat → Int32} {u v : Nat → Int64} {ro cl : Nat → Int32} {wy : Nat → Int64} {be dn : Nat → Int32}
set_option maxHeartbeats 4000000 in
set_option maxRecDepth 100000 in
theorem place_scan {n a r0 row : Nat} (S : CallFix p m c cX0_place 8 s args lw_all RX0) (hR : 1 ≤ R.frames ∧ 30 ≤ R.locals) (hf : cells ≤ R.cells ∧ slots ≤ R.slots) (hA : ∀ q : Nat, s.heap.size ≤ q → A q) (hK : va_K (dC, dI) vwCl (pdT cs) s) (hn : n ≤ 8) (hr0 : r0 < 8) (hov : ∀ k, k < n → ((co (8 * r0 + k)).toInt64 - u r0 - v k).toInt = pl_ov co u v r0 k)
    (kt : ∀ (wy1 : Nat → Int64) (be1 : Nat → Int32) (x4 : Int32) (H : Heap) (locs : List Loc) (ls : Array Slot), pl_sc a r0 (pl_ov co u v) wy wy1 be be1 dn n → pl_ls wy1 dn n x4 → va_P (dC, dI) vwCl (pdW h ad cs (nI n) rk co u v ro cl wy1 be1 dn) H → va_D A (pdW h ad cs (nI n) rk co u v ro cl wy1 be1 dn) → va_S A s.heap H locs → lv_has ls 8 [(0, .ref h), (1, .int (nI row)), (2, .int (nI a)), (3, .int (nI r0)), (4, .int x4)] → W p l e R s m args below meth c H locs cells slots Q (F0 m 152 ls [])) :
    ∀ (j k : Nat) (wy1 : Nat → Int64) (be1 : Nat → Int32) (x4 : Int32) (H : Heap) (locs : List Loc) (ls : Array Slot), k + j = n → pl_sc a r0 (pl_ov co u v) wy wy1 be be1 dn k → pl_ls wy1 dn k x4 → va_P (dC, dI) vwCl (pdW h ad cs (nI n) rk co u v ro cl wy1 be1 dn) H → va_D A (pdW h ad cs (nI n) rk co u v ro cl wy1 be1 dn) → va_S A s.heap H locs → lv_has ls 8 [(0, .ref h), (1, .int (nI row)), (2, .int (nI a)), (3, .int (nI r0)), (4, .int x4), (5, .int (nI k))] → W p l e R s m args below meth c H locs cells slots Q (F0 m 58 ls []) := by
  obtain ⟨hx, hb, hml, hown, hts⟩ := id S
  intro j
  induction j with
  | zero =>
    intro k wy1 be1 x4 H locs ls hk hsc hls hP hD hS hl
    refine lv_iload hx hb dX0_place_58 (lv_at hl 5 rfl) ?_
    refine lv_aload_n hx hb dX0_place_60 rfl (lv_at hl 0 rfl) ?_
    refine pd_g_nn S hK hP dX0_place_61 ?_
    refine pn_ge (tgt := 152) hx hb (by omega) (by omega) dX0_place_64 (by decide) (fun q => ?_) (fun q => ?_)
    · have e : k = n := by omega
      subst e
      exact kt wy1 be1 x4 H locs ls hsc hls hP hD hS (lv_sub hl [0, 1, 2, 3, 4] rfl)
    · omega
  | succ j ih =>
    intro k wy1 be1 x4 H locs ls hk hsc hls hP hD hS hl
    refine lv_iload hx hb dX0_place_58 (lv_at hl 5 rfl) ?_
    refine lv_aload_n hx hb dX0_place_60 rfl (lv_at hl 0 rfl) ?_
    refine pd_g_nn S hK hP dX0_place_61 ?_
    refine pn_ge (tgt := 152) hx hb (by omega) (by omega) dX0_place_64 (by decide) (fun q => ?_) (fun q => ?_)
    · omega
    · refine lv_aload_n hx hb dX0_place_67 rfl (lv_at hl 0 rfl) ?_
      refine pd_g_dn S hK hP dX0_place_68 ?_
      refine lv_iload hx hb dX0_place_71 (lv_at hl 5 rfl) ?_
      refine pd_ld_dn S hK hP (by omega) dX0_place_73 ?_
      refine lv_if_eq (tgt := 80) hx hb dX0_place_74 (by decide) (fun q2 => ?_) (fun q2 => ?_)
      · refine lv_aload_n hx hb dX0_place_80 rfl (lv_at hl 0 rfl) ?_
        refine lv_iload_n hx hb dX0_place_81 rfl (lv_at hl 3 rfl) ?_
        refine lv_iload hx hb dX0_place_82 (lv_at hl 5 rfl) ?_
        refine pd_over S hR hf hA hK hP hD hS hl.1 (by omega) (by omega) (Nat.le_of_ble_eq_true rfl) dX0_place_84 (fun H locs hP hD hS => ?_)
        refine lv_topl (fun z ez => ?_)
        have ez2 : z.toInt = pl_ov co u v r0 k := by
          rw [ez]
          exact hov k q
        refine lv_lstore (lv' := [(6, .long z), (0, .ref h), (1, .int (nI row)), (2, .int (nI a)), (3, .int (nI r0)), (4, .int x4), (5, .int (nI k))]) hx hb dX0_place_87 hl (by decide) rfl (fun ls hl => ?_)
        refine lv_lload hx hb dX0_place_89 (lv_at hl 0 rfl) ?_
        refine lv_aload_n hx hb dX0_place_91 rfl (lv_at hl 1 rfl) ?_
        refine pd_g_wy S hK hP dX0_place_92 ?_
        refine lv_iload hx hb dX0_place_95 (lv_at hl 6 rfl) ?_
        refine pd_ld_wy S hK hP (by omega) dX0_place_97 ?_
        refine W.lcmp hx hb dX0_place_98 ?_
        refine lv_if_ge (tgt := 119) hx hb dX0_place_99 (by decide) (fun q3 => ?_) (fun q3 => ?_)
        · have q6 := Int64.le_iff_toInt_le.mp ((lg_cmp_ge _ _).mp q3)
          have hw : ∀ c, c ≠ k → wy1 c = wy1 c := fun _ _ => rfl
          have hsc2 : pl_sc a r0 (pl_ov co u v) wy wy1 be be1 dn (k + 1) := pl_sc_und hsc hw (fun _ _ => rfl) (Or.inr ⟨by omega, rfl, rfl⟩) q2
          refine lv_iload hx hb dX0_place_119 (lv_at hl 5 rfl) ?_
          refine lv_if_lt (tgt := 142) hx hb dX0_place_121 (by decide) (fun q4 => ?_) (fun q4 => ?_)
          · refine lv_iload hx hb dX0_place_142 (lv_at hl 6 rfl) ?_
            refine lv_istore (lv' := [(4, .int (nI k)), (6, .long z), (0, .ref h), (1, .int (nI row)), (2, .int (nI a)), (3, .int (nI r0)), (5, .int (nI k))]) hx hb dX0_place_144 hl (by decide) rfl (fun ls hl => ?_)
            refine lv_iinc (v := nI (k + 1)) (lv' := [(5, .int (nI (k + 1))), (4, .int (nI k)), (6, .long z), (0, .ref h), (1, .int (nI row)), (2, .int (nI a)), (3, .int (nI r0))]) hx hb dX0_place_146 hl (k := 6) rfl (nI_1 k) (by decide) rfl (fun ls hl => ?_)
            refine lv_goto (tgt := 58) hx hb dX0_place_149 (by decide) ?_
            exact ih (k + 1) _ _ (nI k) H locs ls (by omega) (hsc2) (pl_ls_und hw hls q2 (Or.inl ⟨rfl, Or.inl q4⟩) (by omega)) hP hD hS (lv_sub hl [3, 4, 5, 6, 1, 0] rfl)
          · obtain ⟨i, hik, ei⟩ : ∃ i, i < k ∧ x4 = nI i := by
              rcases hls with ⟨q5, -⟩ | ⟨i, q5, q6, -, -⟩
              · rw [q5] at q4
                exact absurd (by decide) q4
              · exact ⟨i, q5, q6⟩
            refine lv_aload_n hx hb dX0_place_124 rfl (lv_at hl 1 rfl) ?_
            refine pd_g_wy S hK hP dX0_place_125 ?_
            refine lv_iload hx hb dX0_place_128 (lv_at hl 6 rfl) ?_
            refine pd_ld_wy S hK hP (by omega) dX0_place_130 ?_
            refine lv_aload_n hx hb dX0_place_131 rfl (lv_at hl 1 rfl) ?_
            refine pd_g_wy S hK hP dX0_place_132 ?_
            refine lv_iload hx hb dX0_place_135 (lv_at hl 5 rfl) ?_
            refine pr_eqi (y := nI i) (ei) ?_
            refine pd_ld_wy S hK hP (by omega) dX0_place_137 ?_
            refine W.lcmp hx hb dX0_place_138 ?_
            refine lv_if_ge (tgt := 146) hx hb dX0_place_139 (by decide) (fun q5 => ?_) (fun q5 => ?_)
            · have q6 := Int64.le_iff_toInt_le.mp ((lg_cmp_ge _ _).mp q5)
              refine lv_iinc (v := nI (k + 1)) (lv' := [(5, .int (nI (k + 1))), (6, .long z), (0, .ref h), (1, .int (nI row)), (2, .int (nI a)), (3, .int (nI r0)), (4, .int x4)]) hx hb dX0_place_146 hl (k := 6) rfl (nI_1 k) (by decide) rfl (fun ls hl => ?_)
              refine lv_goto (tgt := 58) hx hb dX0_place_149 (by decide) ?_
              exact ih (k + 1) _ _ x4 H locs ls (by omega) (hsc2) (pl_ls_und hw hls q2 (Or.inr ⟨rfl, i, ei, hik, q6⟩) (by omega)) hP hD hS (lv_sub hl [2, 3, 4, 5, 6, 0] rfl)
            · have q6 : (wy1 k).toInt < (wy1 i).toInt := Int.not_le.mp (fun w => q5 ((lg_cmp_ge _ _).mpr (Int64.le_iff_toInt_le.mpr w)))
              refine lv_iload hx hb dX0_place_142 (lv_at hl 6 rfl) ?_
              refine lv_istore (lv' := [(4, .int (nI k)), (6, .long z), (0, .ref h), (1, .int (nI row)), (2, .int (nI a)), (3, .int (nI r0)), (5, .int (nI k))]) hx hb dX0_place_144 hl (by decide) rfl (fun ls hl => ?_)
              refine lv_iinc (v := nI (k + 1)) (lv' := [(5, .int (nI (k + 1))), (4, .int (nI k)), (6, .long z), (0, .ref h), (1, .int (nI row)), (2, .int (nI a)), (3, .int (nI r0))]) hx hb dX0_place_146 hl (k := 6) rfl (nI_1 k) (by decide) rfl (fun ls hl => ?_)
              refine lv_goto (tgt := 58) hx hb dX0_place_149 (by decide) ?_
              exact ih (k + 1) _ _ (nI k) H locs ls (by omega) (hsc2) (pl_ls_und hw hls q2 (Or.inl ⟨rfl, Or.inr ⟨i, ei, hik, q6⟩⟩) (by omega)) hP hD hS (lv_sub hl [3, 4, 5, 6, 1, 0] rfl)
        · have q6 : z.toInt < (wy1 k).toInt := Int.not_le.mp (fun w => q3 ((lg_cmp_ge _ _).mpr (Int64.le_iff_toInt_le.mpr w)))
          refine lv_aload_n hx hb dX0_place_102 rfl (lv_at hl 1 rfl) ?_
          refine pd_g_wy S hK hP dX0_place_103 ?_
          refine lv_iload hx hb dX0_place_106 (lv_at hl 6 rfl) ?_
          refine lv_lload hx hb dX0_place_108 (lv_at hl 0 rfl) ?_
          refine pd_st_wy S hK hP hD hS (by omega) dX0_place_110 (fun H locs hP hD hS => ?_)
          refine lv_aload_n hx hb dX0_place_111 rfl (lv_at hl 1 rfl) ?_
          refine pd_g_be S hK hP dX0_place_112 ?_
          refine lv_iload hx hb dX0_place_115 (lv_at hl 6 rfl) ?_
          refine lv_iload_n hx hb dX0_place_117 rfl (lv_at hl 3 rfl) ?_
          refine pd_st_be S hK hP hD hS (by omega) dX0_place_118 (fun H locs hP hD hS => ?_)
          have hw : ∀ c, c ≠ k → vp_updL wy1 k z c = wy1 c := fun c hc => pk_uLn hc
          have hsc2 : pl_sc a r0 (pl_ov co u v) wy (vp_updL wy1 k z) be (upd be1 k (nI a)) dn (k + 1) := pl_sc_und hsc hw (fun c hc => pk_un hc) (Or.inl ⟨by omega, by rw [pk_uLs]; exact ez2, pk_us⟩) q2
          refine lv_iload hx hb dX0_place_119 (lv_at hl 5 rfl) ?_
          refine lv_if_lt (tgt := 142) hx hb dX0_place_121 (by decide) (fun q4 => ?_) (fun q4 => ?_)
          · refine lv_iload hx hb dX0_place_142 (lv_at hl 6 rfl) ?_
            refine lv_istore (lv' := [(4, .int (nI k)), (6, .long z), (0, .ref h), (1, .int (nI row)), (2, .int (nI a)), (3, .int (nI r0)), (5, .int (nI k))]) hx hb dX0_place_144 hl (by decide) rfl (fun ls hl => ?_)
            refine lv_iinc (v := nI (k + 1)) (lv' := [(5, .int (nI (k + 1))), (4, .int (nI k)), (6, .long z), (0, .ref h), (1, .int (nI row)), (2, .int (nI a)), (3, .int (nI r0))]) hx hb dX0_place_146 hl (k := 6) rfl (nI_1 k) (by decide) rfl (fun ls hl => ?_)
            refine lv_goto (tgt := 58) hx hb dX0_place_149 (by decide) ?_
            exact ih (k + 1) _ _ (nI k) H locs ls (by omega) (hsc2) (pl_ls_und hw hls q2 (Or.inl ⟨rfl, Or.inl q4⟩) (by omega)) hP hD hS (lv_sub hl [3, 4, 5, 6, 1, 0] rfl)
          · obtain ⟨i, hik, ei⟩ : ∃ i, i < k ∧ x4 = nI i := by
              rcases hls with ⟨q5, -⟩ | ⟨i, q5, q6, -, -⟩
              · rw [q5] at q4
                exact absurd (by decide) q4
              · exact ⟨i, q5, q6⟩
            refine lv_aload_n hx hb dX0_place_124 rfl (lv_at hl 1 rfl) ?_
            refine pd_g_wy S hK hP dX0_place_125 ?_
            refine lv_iload hx hb dX0_place_128 (lv_at hl 6 rfl) ?_
            refine pd_ld_wy S hK hP (by omega) dX0_place_130 ?_
            refine lv_aload_n hx hb dX0_place_131 rfl (lv_at hl 1 rfl) ?_
            refine pd_g_wy S hK hP dX0_place_132 ?_
            refine lv_iload hx hb dX0_place_135 (lv_at hl 5 rfl) ?_
            refine pr_eqi (y := nI i) (ei) ?_
            refine pd_ld_wy S hK hP (by omega) dX0_place_137 ?_
            refine W.lcmp hx hb dX0_place_138 ?_
            refine lv_if_ge (tgt := 146) hx hb dX0_place_139 (by decide) (fun q5 => ?_) (fun q5 => ?_)
            · have q6 := Int64.le_iff_toInt_le.mp ((lg_cmp_ge _ _).mp q5)
              refine lv_iinc (v := nI (k + 1)) (lv' := [(5, .int (nI (k + 1))), (6, .long z), (0, .ref h), (1, .int (nI row)), (2, .int (nI a)), (3, .int (nI r0)), (4, .int x4)]) hx hb dX0_place_146 hl (k := 6) rfl (nI_1 k) (by decide) rfl (fun ls hl => ?_)
              refine lv_goto (tgt := 58) hx hb dX0_place_149 (by decide) ?_
              exact ih (k + 1) _ _ x4 H locs ls (by omega) (hsc2) (pl_ls_und hw hls q2 (Or.inr ⟨rfl, i, ei, hik, q6⟩) (by omega)) hP hD hS (lv_sub hl [2, 3, 4, 5, 6, 0] rfl)
            · have q6 : ((vp_updL wy1 k z) k).toInt < ((vp_updL wy1 k z) i).toInt := Int.not_le.mp (fun w => q5 ((lg_cmp_ge _ _).mpr (Int64.le_iff_toInt_le.mpr w)))
              refine lv_iload hx hb dX0_place_142 (lv_at hl 6 rfl) ?_
              refine lv_istore (lv' := [(4, .int (nI k)), (6, .long z), (0, .ref h), (1, .int (nI row)), (2, .int (nI a)), (3, .int (nI r0)), (5, .int (nI k))]) hx hb dX0_place_144 hl (by decide) rfl (fun ls hl => ?_)
              refine lv_iinc (v := nI (k + 1)) (lv' := [(5, .int (nI (k + 1))), (4, .int (nI k)), (6, .long z), (0, .ref h), (1, .int (nI row)), (2, .int (nI a)), (3, .int (nI r0))]) hx hb dX0_place_146 hl (k := 6) rfl (nI_1 k) (by decide) rfl (fun ls hl => ?_)
              refine lv_goto (tgt := 58) hx hb dX0_place_149 (by decide) ?_
              exact ih (k + 1) _ _ (nI k) H locs ls (by omega) (hsc2) (pl_ls_und hw hls q2 (Or.inl ⟨rfl, Or.inr ⟨i, ei, hik, q6⟩⟩) (by omega)) hP hD hS (lv_sub hl [3, 4, 5, 6, 1, 0] rfl)
      · refine lv_goto (tgt := 146) hx hb dX0_place_77 (by decide) ?_
        refine lv_iinc (v := nI (k + 1)) (lv' := [(5, .int (nI (k + 1))), (0, .ref h), (1, .int (nI row)), (2, .int (nI a)), (3, .int (nI r0)), (4, .int x4)]) hx hb dX0_place_146 hl (k := 5) rfl (nI_1 k) (by decide) rfl (fun ls hl => ?_)
        refine lv_goto (tgt := 58) hx hb dX0_place_149 (by decide) ?_
        exact ih (k + 1) _ _ x4 H locs ls (by omega) ((pl_sc_done hsc hls q2).1) ((pl_sc_done hsc hls q2).2) hP hD hS (lv_sub hl [1, 2, 3, 4, 5, 0] rfl)
set_option maxHeartbeats 4000000 in
set_option maxRecDepth 100000 in
theorem place_upd {n a i row : Nat} {b : Int64} (S : CallFix p m c cX0_place 8 s args lw_all RX0) (hR : 1 ≤ R.frames ∧ 30 ≤ R.locals) (hf : cells ≤ R.cells ∧ slots ≤ R.slots) (hA : ∀ q : Nat, s.heap.size ≤ q → A q) (hK : va_K (dC, dI) vwCl (pdT cs) s) (hn : n ≤ 8) (hdr : ∀ d, d ≤ 8 → dn d ≠ 0 → ∃ r, r < 8 ∧ ro d = nI r) (hdj : ∀ k x, k ≤ 8 → x < 8 → dn k ≠ 0 → ro k = nI x → ∀ d, d < k → dn d ≠ 0 → ro d ≠ nI x)
    (kt : ∀ (u2 v2 wy2 : Nat → Int64) (H : Heap) (locs : List Loc) (ls : Array Slot), pl_up n 9 dn ro b u u2 v v2 wy wy2 → va_P (dC, dI) vwCl (pdW h ad cs (nI n) rk co u2 v2 ro cl wy2 be dn) H → va_D A (pdW h ad cs (nI n) rk co u2 v2 ro cl wy2 be dn) → va_S A s.heap H locs → lv_has ls 8 [(0, .ref h), (1, .int (nI row)), (4, .int (nI i))] → W p l e R s m args below meth c H locs cells slots Q (F0 m 250 ls [])) :
    ∀ (j k : Nat) (u2 v2 wy2 : Nat → Int64) (H : Heap) (locs : List Loc) (ls : Array Slot), k + j = 9 → pl_up n k dn ro b u u2 v v2 wy wy2 → va_P (dC, dI) vwCl (pdW h ad cs (nI n) rk co u2 v2 ro cl wy2 be dn) H → va_D A (pdW h ad cs (nI n) rk co u2 v2 ro cl wy2 be dn) → va_S A s.heap H locs → lv_has ls 8 [(0, .ref h), (1, .int (nI row)), (2, .int (nI a)), (4, .int (nI i)), (5, .long b), (7, .int (nI k))] → W p l e R s m args below meth c H locs cells slots Q (F0 m 164 ls []) := by
  obtain ⟨hx, hb, hml, hown, hts⟩ := id S
  intro j
  induction j with
  | zero =>
    intro k u2 v2 wy2 H locs ls hk hup hP hD hS hl
    refine lv_iload hx hb dX0_place_164 (lv_at hl 5 rfl) ?_
    refine lv_bipush (v := nI 8) hx hb dX0_place_166 (by decide) ?_
    refine pn_gt (tgt := 250) hx hb (by omega) (by omega) dX0_place_168 (by decide) (fun q => ?_) (fun q => ?_)
    · have e : k = 9 := by omega
      subst e
      exact kt u2 v2 wy2 H locs ls hup hP hD hS (lv_sub hl [0, 1, 3] rfl)
    · omega
  | succ j ih =>
    intro k u2 v2 wy2 H locs ls hk hup hP hD hS hl
    refine lv_iload hx hb dX0_place_164 (lv_at hl 5 rfl) ?_
    refine lv_bipush (v := nI 8) hx hb dX0_place_166 (by decide) ?_
    refine pn_gt (tgt := 250) hx hb (by omega) (by omega) dX0_place_168 (by decide) (fun q => ?_) (fun q => ?_)
    · omega
    · refine lv_iload hx hb dX0_place_171 (lv_at hl 5 rfl) ?_
      refine lv_aload_n hx hb dX0_place_173 rfl (lv_at hl 0 rfl) ?_
      refine pd_g_nn S hK hP dX0_place_174 ?_
      refine pn_ge (tgt := 202) hx hb (by omega) (by omega) dX0_place_177 (by decide) (fun q2 => ?_) (fun q2 => ?_)
      · refine lv_aload_n hx hb dX0_place_202 rfl (lv_at hl 0 rfl) ?_
        refine pd_g_dn S hK hP dX0_place_203 ?_
        refine lv_iload hx hb dX0_place_206 (lv_at hl 5 rfl) ?_
        refine pd_ld_dn S hK hP (by omega) dX0_place_208 ?_
        refine lv_if_ne (tgt := 215) hx hb dX0_place_209 (by decide) (fun q3 => ?_) (fun q3 => ?_)
        · obtain ⟨x, hx8, ex⟩ := hdr k q q3
          refine lv_aload_n hx hb dX0_place_215 rfl (lv_at hl 0 rfl) ?_
          refine pd_g_u S hK hP dX0_place_216 ?_
          refine lv_aload_n hx hb dX0_place_219 rfl (lv_at hl 0 rfl) ?_
          refine pd_g_ro S hK hP dX0_place_220 ?_
          refine lv_iload hx hb dX0_place_223 (lv_at hl 5 rfl) ?_
          refine pd_ld_ro S hK hP (by omega) dX0_place_225 ?_
          refine pr_eqi (y := nI x) (ex) ?_
          refine lv_dup2_11 hx hb dX0_place_226 rfl rfl ?_
          refine pd_ld_u S hK hP (by omega) dX0_place_227 ?_
          refine lv_lload hx hb dX0_place_228 (lv_at hl 4 rfl) ?_
          refine lv_ladd hx hb dX0_place_230 ?_
          refine pd_st_u S hK hP hD hS (by omega) dX0_place_231 (fun H locs hP hD hS => ?_)
          refine lv_aload_n hx hb dX0_place_232 rfl (lv_at hl 0 rfl) ?_
          refine pd_g_v S hK hP dX0_place_233 ?_
          refine lv_iload hx hb dX0_place_236 (lv_at hl 5 rfl) ?_
          refine lv_dup2_11 hx hb dX0_place_238 rfl rfl ?_
          refine pd_ld_v S hK hP (by omega) dX0_place_239 ?_
          refine lv_lload hx hb dX0_place_240 (lv_at hl 4 rfl) ?_
          refine lv_lsub hx hb dX0_place_242 ?_
          refine pd_st_v S hK hP hD hS (by omega) dX0_place_243 (fun H locs hP hD hS => ?_)
          refine lv_iinc (v := nI (k + 1)) (lv' := [(7, .int (nI (k + 1))), (0, .ref h), (1, .int (nI row)), (2, .int (nI a)), (4, .int (nI i)), (5, .long b)]) hx hb dX0_place_244 hl (k := 5) rfl (nI_1 k) (by decide) rfl (fun ls hl => ?_)
          refine lv_goto (tgt := 164) hx hb dX0_place_247 (by decide) ?_
          exact ih (k + 1) _ _ _ H locs ls (by omega) (pl_up_done hup q3 hx8 ex (hdj k x q hx8 q3 ex)) hP hD hS (lv_sub hl [1, 2, 3, 4, 5, 0] rfl)
        · refine lv_goto (tgt := 244) hx hb dX0_place_212 (by decide) ?_
          refine lv_iinc (v := nI (k + 1)) (lv' := [(7, .int (nI (k + 1))), (0, .ref h), (1, .int (nI row)), (2, .int (nI a)), (4, .int (nI i)), (5, .long b)]) hx hb dX0_place_244 hl (k := 5) rfl (nI_1 k) (by decide) rfl (fun ls hl => ?_)
          refine lv_goto (tgt := 164) hx hb dX0_place_247 (by decide) ?_
          exact ih (k + 1) _ _ _ H locs ls (by omega) (pl_up_skip hup q3 q2) hP hD hS (lv_sub hl [1, 2, 3, 4, 5, 0] rfl)
      · refine lv_aload_n hx hb dX0_place_180 rfl (lv_at hl 0 rfl) ?_
        refine pd_g_dn S hK hP dX0_place_181 ?_
        refine lv_iload hx hb dX0_place_184 (lv_at hl 5 rfl) ?_
        refine pd_ld_dn S hK hP (by omega) dX0_place_186 ?_
        refine lv_if_ne (tgt := 202) hx hb dX0_place_187 (by decide) (fun q3 => ?_) (fun q3 => ?_)
        · refine lv_aload_n hx hb dX0_place_202 rfl (lv_at hl 0 rfl) ?_
          refine pd_g_dn S hK hP dX0_place_203 ?_
          refine lv_iload hx hb dX0_place_206 (lv_at hl 5 rfl) ?_
          refine pd_ld_dn S hK hP (by omega) dX0_place_208 ?_
          refine lv_if_ne (tgt := 215) hx hb dX0_place_209 (by decide) (fun q4 => ?_) (fun q4 => ?_)
          · obtain ⟨x, hx8, ex⟩ := hdr k q q4
            refine lv_aload_n hx hb dX0_place_215 rfl (lv_at hl 0 rfl) ?_
            refine pd_g_u S hK hP dX0_place_216 ?_
            refine lv_aload_n hx hb dX0_place_219 rfl (lv_at hl 0 rfl) ?_
            refine pd_g_ro S hK hP dX0_place_220 ?_
            refine lv_iload hx hb dX0_place_223 (lv_at hl 5 rfl) ?_
            refine pd_ld_ro S hK hP (by omega) dX0_place_225 ?_
            refine pr_eqi (y := nI x) (ex) ?_
            refine lv_dup2_11 hx hb dX0_place_226 rfl rfl ?_
            refine pd_ld_u S hK hP (by omega) dX0_place_227 ?_
            refine lv_lload hx hb dX0_place_228 (lv_at hl 4 rfl) ?_
            refine lv_ladd hx hb dX0_place_230 ?_
            refine pd_st_u S hK hP hD hS (by omega) dX0_place_231 (fun H locs hP hD hS => ?_)
            refine lv_aload_n hx hb dX0_place_232 rfl (lv_at hl 0 rfl) ?_
            refine pd_g_v S hK hP dX0_place_233 ?_
            refine lv_iload hx hb dX0_place_236 (lv_at hl 5 rfl) ?_
            refine lv_dup2_11 hx hb dX0_place_238 rfl rfl ?_
            refine pd_ld_v S hK hP (by omega) dX0_place_239 ?_
            refine lv_lload hx hb dX0_place_240 (lv_at hl 4 rfl) ?_
            refine lv_lsub hx hb dX0_place_242 ?_
            refine pd_st_v S hK hP hD hS (by omega) dX0_place_243 (fun H locs hP hD hS => ?_)
            refine lv_iinc (v := nI (k + 1)) (lv' := [(7, .int (nI (k + 1))), (0, .ref h), (1, .int (nI row)), (2, .int (nI a)), (4, .int (nI i)), (5, .long b)]) hx hb dX0_place_244 hl (k := 5) rfl (nI_1 k) (by decide) rfl (fun ls hl => ?_)
            refine lv_goto (tgt := 164) hx hb dX0_place_247 (by decide) ?_
            exact ih (k + 1) _ _ _ H locs ls (by omega) (pl_up_done hup q4 hx8 ex (hdj k x q hx8 q4 ex)) hP hD hS (lv_sub hl [1, 2, 3, 4, 5, 0] rfl)
          · exact absurd q4 q3
        · refine lv_aload_n hx hb dX0_place_190 rfl (lv_at hl 0 rfl) ?_
          refine pd_g_wy S hK hP dX0_place_191 ?_
          refine lv_iload hx hb dX0_place_194 (lv_at hl 5 rfl) ?_
          refine lv_dup2_11 hx hb dX0_place_196 rfl rfl ?_
          refine pd_ld_wy S hK hP (by omega) dX0_place_197 ?_
          refine lv_lload hx hb dX0_place_198 (lv_at hl 4 rfl) ?_
          refine lv_lsub hx hb dX0_place_200 ?_
          refine pd_st_wy S hK hP hD hS (by omega) dX0_place_201 (fun H locs hP hD hS => ?_)
          refine lv_aload_n hx hb dX0_place_202 rfl (lv_at hl 0 rfl) ?_
          refine pd_g_dn S hK hP dX0_place_203 ?_
          refine lv_iload hx hb dX0_place_206 (lv_at hl 5 rfl) ?_
          refine pd_ld_dn S hK hP (by omega) dX0_place_208 ?_
          refine lv_if_ne (tgt := 215) hx hb dX0_place_209 (by decide) (fun q4 => ?_) (fun q4 => ?_)
          · exact absurd q3 q4
          · refine lv_goto (tgt := 244) hx hb dX0_place_212 (by decide) ?_
            refine lv_iinc (v := nI (k + 1)) (lv' := [(7, .int (nI (k + 1))), (0, .ref h), (1, .int (nI row)), (2, .int (nI a)), (4, .int (nI i)), (5, .long b)]) hx hb dX0_place_244 hl (k := 5) rfl (nI_1 k) (by decide) rfl (fun ls hl => ?_)
            refine lv_goto (tgt := 164) hx hb dX0_place_247 (by decide) ?_
            exact ih (k + 1) _ _ _ H locs ls (by omega) (pl_up_und hup q3 q2) hP hD hS (lv_sub hl [1, 2, 3, 4, 5, 0] rfl)
set_option maxHeartbeats 4000000 in
set_option maxRecDepth 100000 in
theorem place_aug {n row : Nat} {ov : Nat → Nat → Int} {dn1 : Nat → Int32} {rk1 : Nat → Nat} (S : CallFix p m c cX0_place 8 s args lw_all RX0) (hR : 1 ≤ R.frames ∧ 30 ≤ R.locals) (hf : cells ≤ R.cells ∧ slots ≤ R.slots) (hA : ∀ q : Nat, s.heap.size ≤ q → A q) (hK : va_K (dC, dI) vwCl (pdT cs) s) (hn : n ≤ 8) (hrow : row < n)
    (kt : ∀ (ro : Nat → Int32) (H : Heap) (locs : List Loc) (ls : Array Slot), pl_G n row ov v be dn1 rk1 ro 8 → va_P (dC, dI) vwCl (pdW h ad cs (nI n) rk co u v ro cl wy be dn) H → va_D A (pdW h ad cs (nI n) rk co u v ro cl wy be dn) → va_S A s.heap H locs → W p l e R s m args below meth c H locs cells slots Q (F0 m 289 ls [])) :
    ∀ (j a : Nat) (ro : Nat → Int32) (H : Heap) (locs : List Loc) (ls : Array Slot), rk1 a < j → a ≤ 8 → pl_G n row ov v be dn1 rk1 ro a → va_P (dC, dI) vwCl (pdW h ad cs (nI n) rk co u v ro cl wy be dn) H → va_D A (pdW h ad cs (nI n) rk co u v ro cl wy be dn) → va_S A s.heap H locs → lv_has ls 8 [(0, .ref h), (2, .int (nI a))] → W p l e R s m args below meth c H locs cells slots Q (F0 m 256 ls []) := by
  obtain ⟨hx, hb, hml, hown, hts⟩ := id S
  intro j
  induction j with
  | zero => intro a ro H locs ls hj; omega
  | succ j ih =>
    intro a ro H locs ls hj ha8 hG hP hD hS hl
    refine lv_iload_n hx hb dX0_place_256 rfl (lv_at hl 1 rfl) ?_
    refine lv_bipush (v := nI 8) hx hb dX0_place_257 (by decide) ?_
    refine pn_eq (tgt := 289) hx hb (by omega) (by omega) dX0_place_259 (by decide) (fun q => ?_) (fun q => ?_)
    · subst q
      exact kt ro H locs ls hG hP hD hS
    · obtain ⟨d, r, d1, d2, d3, d4, d5, d6, d7⟩ := pl_G_step hn hrow hG q
      refine lv_aload_n hx hb dX0_place_262 rfl (lv_at hl 0 rfl) ?_
      refine pd_g_ro S hK hP dX0_place_263 ?_
      refine lv_iload_n hx hb dX0_place_266 rfl (lv_at hl 1 rfl) ?_
      refine lv_aload_n hx hb dX0_place_267 rfl (lv_at hl 0 rfl) ?_
      refine pd_g_ro S hK hP dX0_place_268 ?_
      refine lv_aload_n hx hb dX0_place_271 rfl (lv_at hl 0 rfl) ?_
      refine pd_g_be S hK hP dX0_place_272 ?_
      refine lv_iload_n hx hb dX0_place_275 rfl (lv_at hl 1 rfl) ?_
      refine pd_ld_be S hK hP (by omega) dX0_place_276 ?_
      refine pr_eqi (y := nI d) (d4) ?_
      refine pd_ld_ro S hK hP (by omega) dX0_place_277 ?_
      refine pr_eqi (y := nI r) (d5) ?_
      refine pd_st_ro S hK hP hD hS (by omega) dX0_place_278 (fun H locs hP hD hS => ?_)
      refine lv_aload_n hx hb dX0_place_279 rfl (lv_at hl 0 rfl) ?_
      refine pd_g_be S hK hP dX0_place_280 ?_
      refine lv_iload_n hx hb dX0_place_283 rfl (lv_at hl 1 rfl) ?_
      refine pd_ld_be S hK hP (by omega) dX0_place_284 ?_
      refine pr_eqi (y := nI d) (d4) ?_
      refine lv_istore_n (lv' := [(2, .int (nI d)), (0, .ref h)]) hx hb dX0_place_285 rfl hl (by decide) rfl (fun ls hl => ?_)
      refine lv_goto (tgt := 256) hx hb dX0_place_286 (by decide) ?_
      exact ih d _ H locs ls (by omega) d1 d7 hP hD hS (lv_sub hl [1, 0] rfl)
set_option maxHeartbeats 4000000 in
set_option maxRecDepth 100000 in
theorem place_while {n row : Nat} (S : CallFix p m c cX0_place 8 s args lw_all RX0) (hR : 1 ≤ R.frames ∧ 30 ≤ R.locals) (hf : cells ≤ R.cells ∧ slots ≤ R.slots) (hA : ∀ q : Nat, s.heap.size ≤ q → A q) (hK : va_K (dC, dI) vwCl (pdT cs) s) (hn : n ≤ 8) (hrow : row < n) (hRo : pl_R n row ro) (h8 : ro 8 = nI row)
    (kt : ∀ (a : Nat) (u v wy : Nat → Int64) (be dn : Nat → Int32) (H : Heap) (locs : List Loc) (ls : Array Slot), a ≤ 8 → pl_L n row a co u v ro wy be dn → ro a = -1 → va_P (dC, dI) vwCl (pdW h ad cs (nI n) rk co u v ro cl wy be dn) H → va_D A (pdW h ad cs (nI n) rk co u v ro cl wy be dn) → va_S A s.heap H locs → lv_has ls 8 [(0, .ref h), (1, .int (nI row)), (2, .int (nI a))] → W p l e R s m args below meth c H locs cells slots Q (F0 m 256 ls [])) :
    ∀ (j a : Nat) (u v wy : Nat → Int64) (be dn : Nat → Int32) (H : Heap) (locs : List Loc) (ls : Array Slot), fd_u dn 9 < j → pl_L n row a co u v ro wy be dn → va_P (dC, dI) vwCl (pdW h ad cs (nI n) rk co u v ro cl wy be dn) H → va_D A (pdW h ad cs (nI n) rk co u v ro cl wy be dn) → va_S A s.heap H locs → lv_has ls 8 [(0, .ref h), (1, .int (nI row)), (2, .int (nI a))] → W p l e R s m args below meth c H locs cells slots Q (F0 m 29 ls []) := by
  obtain ⟨hx, hb, hml, hown, hts⟩ := id S
  intro j
  induction j with
  | zero => intro a u v wy be dn H locs ls hj; omega
  | succ j ih =>
    intro a u v wy be dn H locs ls hj hL hP hD hS hl
    obtain ⟨hbu, hbv⟩ := pl_bdL hn hrow hRo hL
    have hDD := hL.2.1
    have ha8 : a ≤ 8 := by
      rcases hDD.1 with q | q <;> omega
    refine lv_aload_n hx hb dX0_place_29 rfl (lv_at hl 0 rfl) ?_
    refine pd_g_ro S hK hP dX0_place_30 ?_
    refine lv_iload_n hx hb dX0_place_33 rfl (lv_at hl 2 rfl) ?_
    refine pd_ld_ro S hK hP (by omega) dX0_place_34 ?_
    refine lv_if_lt (tgt := 256) hx hb dX0_place_35 (by decide) (fun q => ?_) (fun q => ?_)
    · have e : ro a = -1 := by
        rcases hDD.1 with w | w
        · rw [w, h8] at q
          exact absurd q (pl_nn (by omega))
        · rcases hRo.1 a w with z | ⟨r, hr, z⟩
          · exact z
          · rw [z] at q
            exact absurd q (pl_nn (by omega))
      exact kt a u v wy be dn H locs ls ha8 hL e hP hD hS (lv_sub hl [0, 1, 2] rfl)
    · obtain ⟨r0, hr0, har⟩ : ∃ r0, r0 ≤ row ∧ ro a = nI r0 := by
        rcases hDD.1 with w | w
        · exact ⟨row, Nat.le_refl _, by rw [w]; exact h8⟩
        · rcases hRo.1 a w with z | ⟨r, hr, z⟩
          · rw [z] at q
            exact absurd (by decide) q
          · exact ⟨r, by omega, z⟩
      refine lv_aload_n hx hb dX0_place_38 rfl (lv_at hl 0 rfl) ?_
      refine pd_g_dn S hK hP dX0_place_39 ?_
      refine lv_iload_n hx hb dX0_place_42 rfl (lv_at hl 2 rfl) ?_
      refine lv_iconst (v := 1) hx hb dX0_place_43 (by decide) ?_
      refine pd_st_dn S hK hP hD hS (by omega) (by decide) dX0_place_44 (fun H locs hP hD hS => ?_)
      refine lv_aload_n hx hb dX0_place_45 rfl (lv_at hl 0 rfl) ?_
      refine pd_g_ro S hK hP dX0_place_46 ?_
      refine lv_iload_n hx hb dX0_place_49 rfl (lv_at hl 2 rfl) ?_
      refine pd_ld_ro S hK hP (by omega) dX0_place_50 ?_
      refine pr_eqi (y := nI r0) (har) ?_
      refine lv_istore_n (lv' := [(3, .int (nI r0)), (0, .ref h), (1, .int (nI row)), (2, .int (nI a))]) hx hb dX0_place_51 rfl hl (by decide) rfl (fun ls hl => ?_)
      refine lv_iconst (v := -1) hx hb dX0_place_52 (by decide) ?_
      refine lv_istore (lv' := [(4, .int (-1)), (3, .int (nI r0)), (0, .ref h), (1, .int (nI row)), (2, .int (nI a))]) hx hb dX0_place_53 hl (by decide) rfl (fun ls hl => ?_)
      refine lv_iconst (v := nI 0) hx hb dX0_place_55 (by decide) ?_
      refine lv_istore (lv' := [(5, .int (nI 0)), (4, .int (-1)), (3, .int (nI r0)), (0, .ref h), (1, .int (nI row)), (2, .int (nI a))]) hx hb dX0_place_56 hl (by decide) rfl (fun ls hl => ?_)
      have h1a : upd dn a 1 a ≠ 0 := fd_u1
      have h1n : ∀ c, c ≠ a → upd dn a 1 c = dn c := fun c hc => pk_un hc
      have hdn := pl_done (dn1 := upd dn a 1) hn hrow hRo h8 hDD har hr0 h1n
      have hfu := fd_u_upd (d := dn) (k := a) 9 (by omega) hDD.2.1
      generalize upd dn a 1 = dn1 at hP hD h1a h1n hdn hfu
      refine place_scan (wy := wy) (be := be) (a := a) S hR hf hA hK hn (by omega) (fun k hk => pl_ov64 (by have := hbu r0 hr0; omega) (by have := hbv k hk; omega)) (fun wy1 be1 x4 H locs ls hsc hls hP hD hS hl => ?_) n 0 wy be (-1) H locs ls (by omega) (pl_sc0 (be := be)).1 (pl_sc0 (a := a) (r0 := r0) (ov := pl_ov co u v) (be := be)).2 hP hD hS (lv_sub hl [3, 4, 5, 2, 1, 0] rfl)
      obtain ⟨i, hin, ei, hi0, hmin⟩ : ∃ i, i < n ∧ x4 = nI i ∧ dn1 i = 0 ∧ ∀ c, c < n → dn1 c = 0 → (wy1 i).toInt ≤ (wy1 c).toInt := by
        rcases hls with ⟨-, w⟩ | w
        · obtain ⟨c, hc, hc0⟩ := pl_und hn hrow hRo hdn
          exact absurd hc0 (w c hc)
        · exact w
      subst ei
      refine lv_aload_n hx hb dX0_place_152 rfl (lv_at hl 0 rfl) ?_
      refine pd_g_wy S hK hP dX0_place_153 ?_
      refine lv_iload hx hb dX0_place_156 (lv_at hl 4 rfl) ?_
      refine pd_ld_wy S hK hP (by omega) dX0_place_158 ?_
      refine lv_lstore (lv' := [(5, .long (wy1 i)), (0, .ref h), (1, .int (nI row)), (2, .int (nI a)), (3, .int (nI r0)), (4, .int (nI i))]) hx hb dX0_place_159 hl (by decide) rfl (fun ls hl => ?_)
      refine lv_iconst (v := nI 0) hx hb dX0_place_161 (by decide) ?_
      refine lv_istore (lv' := [(7, .int (nI 0)), (5, .long (wy1 i)), (0, .ref h), (1, .int (nI row)), (2, .int (nI a)), (3, .int (nI r0)), (4, .int (nI i))]) hx hb dX0_place_162 hl (by decide) rfl (fun ls hl => ?_)
      refine place_upd (u := u) (v := v) (wy := wy1) (b := wy1 i) (a := a) S hR hf hA hK hn (fun d hd h => ?_) (fun k x hk hx8 h e d hd h2 e2 => ?_) (fun u2 v2 wy2 H locs ls hup hP hD hS hl => ?_) 9 0 u v wy1 H locs ls (by omega) pl_up0 hP hD hS (lv_sub hl [2, 3, 4, 6, 1, 0] rfl)
      · rcases hdn d hd h with ⟨-, w⟩ | ⟨-, r, hr, w⟩
        · exact ⟨row, by omega, w⟩
        · exact ⟨r, by omega, w⟩
      · have := pl_dinj hn hrow hRo hdn hk (by omega) h h2 (by omega) e e2
        omega
      · refine lv_iload hx hb dX0_place_250 (lv_at hl 2 rfl) ?_
        refine lv_istore_n (lv' := [(2, .int (nI i)), (0, .ref h), (1, .int (nI row)), (4, .int (nI i))]) hx hb dX0_place_252 rfl hl (by decide) rfl (fun ls hl => ?_)
        refine lv_goto (tgt := 29) hx hb dX0_place_253 (by decide) ?_
        exact ih i u2 v2 wy2 be1 dn1 H locs ls (by omega) (pl_step hn hrow hRo h8 hL hr0 har h1a h1n hsc hin hi0 hmin hup) hP hD hS (lv_sub hl [1, 2, 0] rfl)
end PLACE
set_option maxHeartbeats 4000000 in
set_option maxRecDepth 100000 in
theorem met_place (l : Launch) (dC : Nat → ClassId) (dI : Nat → Nat → Nat) (h : Nat) (ad : Nat → Nat) (cs : Nat → ClassId) (rk : Int32) (co : Nat → Int32) (u v : Nat → Int64) (ro cl : Nat → Int32) (wy : Nat → Int64) (be dn : Nat → Int32) (n row : Nat) (hn : n ≤ 8) (hrow : row < n) (hp : pl_P n row co u v ro) (sz : Nat) : Met l yX0_place (ws_ yX0_place cX0_place 8 none) ({ frames := 1, cells := 0, slots := 0, locals := 30 } : Room) (va_Pc [.ref h, .int (nI row)] (pdPre dC dI (pdT cs) sz (pdW h ad cs (nI n) rk co u v ro cl wy be dn))) (va_Qv (fun (g : (Nat → Int64) × (Nat → Int64) × (Nat → Int32) × (Nat → Int64) × (Nat → Int32) × (Nat → Int32)) => pl_P n (row + 1) co g.1 g.2.1 g.2.2.1 ∧ ∃ c, c < n ∧ (g.2.1 c).toInt = 0) (fun g t => pdPost dC dI (va_A (pdW h ad cs (nI n) rk co u v ro cl wy be dn) sz) (pdW h ad cs (nI n) rk co g.1 g.2.1 g.2.2.1 cl g.2.2.2.1 g.2.2.2.2.1 g.2.2.2.2.2) t) (va_A (pdW h ad cs (nI n) rk co u v ro cl wy be dn) sz)) 0 0 (va_A (pdW h ad cs (nI n) rk co u v ro cl wy be dn) sz) := by
  refine Met.ofW (cc := cX0_place) (maxL := 8) (ret := none) (by decide) rfl ?_
  intro p e s m args below meth c s₁ B hml hv
  obtain ⟨rfl, hsz, hP, hK, hD0⟩ := hv
  have hx := B.exec
  have hb := B.bytes
  have hr := B.returns
  have hts0 := atoms_spec (ws := ws_ yX0_place cX0_place 8 none) B.pre
  have hts : ∀ w ∈ lw_all, w.before _ s = true := fun w h => hts0 w (List.mem_cons_of_mem _ h)
  have hown : s.vm.findClass RX0 = some m.cls := findClass_of_methodNamed B.named
  have hlocks := B.notSynchronized
  have S : CallFix p m c cX0_place 8 s ([.ref h, .int (nI row)] : List Value).toArray lw_all RX0 := ⟨hx, hb, hml, hown, hts⟩
  subst hsz
  have hD := hD0.self (sz := s.heap.size)
  generalize hAe : va_A (pdW h ad cs (nI n) rk co u v ro cl wy be dn) s.heap.size = A at hD ⊢
  have hA : ∀ q : Nat, s.heap.size ≤ q → A q := fun q h => by rw [← hAe]; exact Or.inr h
  have hS : va_S A s.heap s.heap [] := va_S.rf
  have hl := lv_entry ([.ref h, .int (nI row)]) (n := 8) (Nat.le_of_ble_eq_true rfl)
  rw [lg_entry_eq]
  generalize (lg_sl ([.ref h, .int (nI row)]) ++ List.replicate (8 - (lg_sl ([.ref h, .int (nI row)])).length) Slot.unset).toArray = ls at hl ⊢
  have hl : lv_has ls 8 [(0, .ref h), (1, .int (nI row))] := hl
  have hR : 1 ≤ (1 : Nat) ∧ 30 ≤ (30 : Nat) := ⟨Nat.le_refl _, Nat.le_refl _⟩
  have hf : (0 : Nat) ≤ 0 ∧ (0 : Nat) ≤ 0 := ⟨Nat.le_refl _, Nat.le_refl _⟩
  refine lv_aload_n hx hb dX0_place_0 rfl (lv_at hl 0 rfl) ?_
  refine pd_g_wy S hK hP dX0_place_1 ?_
  refine lv_ldc2 (v := 9223372036854775807) hx hb hown (hts _ q79) dX0_place_4 ?_
  refine pd_fill_wy S hR hf hA hK hP hD hS hl.1 dX0_place_7 (fun wy0 H locs hwy hP hD hS => ?_)
  refine lv_aload_n hx hb dX0_place_10 rfl (lv_at hl 0 rfl) ?_
  refine pd_g_dn S hK hP dX0_place_11 ?_
  refine lv_iconst (v := 0) hx hb dX0_place_14 (by decide) ?_
  refine pd_fill_dn S hR hf hA hK hP hD hS hl.1 (by decide) dX0_place_15 (fun dn0 H locs hdn hP hD hS => ?_)
  refine lv_aload_n hx hb dX0_place_18 rfl (lv_at hl 0 rfl) ?_
  refine pd_g_ro S hK hP dX0_place_19 ?_
  refine lv_bipush (v := nI 8) hx hb dX0_place_22 (by decide) ?_
  refine lv_iload_n hx hb dX0_place_24 rfl (lv_at hl 1 rfl) ?_
  refine pd_st_ro S hK hP hD hS (by omega) dX0_place_25 (fun H locs hP hD hS => ?_)
  refine lv_bipush (v := nI 8) hx hb dX0_place_26 (by decide) ?_
  refine lv_istore_n (lv' := [(2, .int (nI 8)), (0, .ref h), (1, .int (nI row))]) hx hb dX0_place_28 rfl hl (by decide) rfl (fun ls hl => ?_)
  obtain ⟨hRo, hL⟩ := pl_L0 (be := be) hn hrow hp hwy hdn
  have h8 : upd ro 8 (nI row) 8 = nI row := pk_us
  generalize upd ro 8 (nI row) = ro1 at hP hD hRo hL h8
  refine place_while (ro := ro1) S hR hf hA hK hn hrow hRo h8 (fun a u2 v2 wy2 be2 dn2 H locs ls ha8 hL ha hP hD hS hl => ?_) 10 8 u v wy0 be dn0 H locs ls (by have := fd_u_le dn0 9; omega) hL hP hD hS (lv_sub hl [1, 2, 0] rfl)
  obtain ⟨hrf, dn3, rk3, hG⟩ := pl_G0 hn hrow hRo h8 hL ha
  have han : a < n := by
    rcases hL.2.1.1 with q | q
    · rw [q, h8] at ha
      exact absurd ha.symm (pl_m1 (by omega))
    · exact q
  have hv0 : (v2 a).toInt = 0 := (hL.1.1 a han).2 ha
  refine place_aug (v := v2) (be := be2) S hR hf hA hK hn hrow (fun ro2 H locs ls hG hP hD hS => ?_) (rk3 a + 1) a ro1 H locs ls (by omega) ha8 hG hP hD hS (lv_sub hl [0, 2] rfl)
  exact W.vret hx hb hr (fun t ht hW => ⟨⟨(u2, v2, ro2, wy2, be2, dn2), rfl, ⟨pl_G_end hn hrow hL.1 hrf hG, a, han, hv0⟩, by rw [ht]; exact hP, hD⟩, hS.F ht⟩) hS.2.2 dX0_place_289
end
section
/-! order -/
set_option maxRecDepth 100000
def pd_C (co : Nat → Int32) (r c : Nat) : Int := (co (8 * r + c)).toInt
/-- no giving with nothing over that agrees with f ahead of r gives r a column ahead of c -/
def od_low (t : Nat → Nat → Prop) (n : Nat) (f : Nat → Nat) (r c : Nat) : Prop := ∀ g, pd_giv n g → (∀ y, y < n → t y (g y)) → (∀ r', r' < r → g r' = f r') → c ≤ g r
def od_dnk (n r c : Nat) (dn ro : Nat → Int32) (k : Nat) : Prop := ∀ k' y, k' < k → y < n → ro k' = nI y → (dn k' ≠ 0 ↔ (y < r ∨ k' = c))
theorem od_low_s {t : Nat → Nat → Prop} {n : Nat} {f : Nat → Nat} {r c : Nat} (h : od_low t n f r c) (hn : ∀ g, pd_giv n g → (∀ y, y < n → t y (g y)) → (∀ r', r' < r → g r' = f r') → g r ≠ c) : od_low t n f r (c + 1) := by
  intro g h1 h2 h3
  have a := h g h1 h2 h3
  have b := hn g h1 h2 h3
  omega
theorem od_dnk_s {n r c k y : Nat} {dn ro : Nat → Int32} {z : Int32} (hn : n ≤ 8) (hy : y < n) (ey : ro k = nI y) (h : od_dnk n r c dn ro k) (hz : z ≠ 0 ↔ (y < r ∨ k = c)) : od_dnk n r c (upd dn k z) ro (k + 1) := by
  intro k' y' hk' hy' e
  by_cases w : k' = k
  · subst w
    rw [ey] at e
    rw [pk_us, ← fd_inj (n := n) (by omega) hy hy' e]
    exact hz
  · rw [pk_un w]
    exact h k' y' (by omega) hy' e
theorem od_of {t : Nat → Nat → Prop} {n : Nat} {ro cl : Nat → Int32} (hn : n ≤ 8) (hA : ∀ k, k < n → ∃ y, y < n ∧ ro k = nI y ∧ cl y = nI k ∧ t y k) : ∃ f, od_f t n ro cl f := by
  have cl_ : ∀ {a : Nat}, a < n → (nI a).toNatClampNeg = a := fun ha => nI_clamp (by omega)
  have hgiv : pd_giv n (fun k => (ro k).toNatClampNeg) := by
    refine ⟨fun k hk => ?_, fun k k' hk hk' e => ?_⟩
    · obtain ⟨y, hy, e1, e2, e3⟩ := hA k hk
      show (ro k).toNatClampNeg < n
      rw [e1, cl_ hy]
      exact hy
    · obtain ⟨y, hy, e1, e2, e3⟩ := hA k hk
      obtain ⟨y', hy', e1', e2', e3'⟩ := hA k' hk'
      have e : (ro k).toNatClampNeg = (ro k').toNatClampNeg := e
      rw [e1, e1', cl_ hy, cl_ hy'] at e
      subst e
      rw [e2] at e2'
      exact fd_inj (n := n) (by omega) hk hk' e2'
  have hB : ∀ y, y < n → ∃ k, k < n ∧ ro k = nI y ∧ cl y = nI k ∧ t y k := by
    intro y hy
    obtain ⟨k, hk, e⟩ := pd_surj n _ hgiv y hy
    have e : (ro k).toNatClampNeg = y := e
    obtain ⟨z, hz, e1, e2, e3⟩ := hA k hk
    rw [e1, cl_ hz] at e
    subst e
    exact ⟨k, hk, e1, e2, e3⟩
  refine ⟨fun y => (cl y).toNatClampNeg, ⟨fun y hy => ?_, fun y y' hy hy' e => ?_⟩, fun y hy => ?_⟩
  · obtain ⟨k, hk, e1, e2, e3⟩ := hB y hy
    show (cl y).toNatClampNeg < n
    rw [e2, cl_ hk]
    exact hk
  · obtain ⟨k, hk, e1, e2, e3⟩ := hB y hy
    obtain ⟨k', hk', e1', e2', e3'⟩ := hB y' hy'
    have e : (cl y).toNatClampNeg = (cl y').toNatClampNeg := e
    rw [e2, e2', cl_ hk, cl_ hk'] at e
    subst e
    rw [e1] at e1'
    exact fd_inj (n := n) (by omega) hy hy' e1'
  · obtain ⟨k, hk, e1, e2, e3⟩ := hB y hy
    show cl y = nI (cl y).toNatClampNeg ∧ ro (cl y).toNatClampNeg = nI y ∧ t y (cl y).toNatClampNeg
    rw [e2, cl_ hk]
    exact ⟨rfl, e1, e3⟩
theorem od_lex {n : Nat} {co : Nat → Int32} {u v : Nat → Int64} {ro cl : Nat → Int32} {f : Nat → Nat} (hF : ∀ r c, r < n → c < n → 0 ≤ pl_ov co u v r c) (h : od_f (pl_t co u v) n ro cl f) (hl : ∀ r, r < n → od_low (pl_t co u v) n f r (f r)) : pd_lex (pd_C co) n f := by
  have hF2 : ∀ r c, r < n → c < n → (fun r => (u r).toInt) r + (fun c => (v c).toInt) c ≤ pd_C co r c := fun r c hr hc => by
    have := hF r c hr hc
    unfold pl_ov at this
    show (u r).toInt + (v c).toInt ≤ (co (8 * r + c)).toInt
    omega
  have ht : ∀ r c, pl_t co u v r c ↔ pd_C co r c = (fun r => (u r).toInt) r + (fun c => (v c).toInt) c := fun r c => by
    show (co (8 * r + c)).toInt - (u r).toInt - (v c).toInt = 0 ↔ (co (8 * r + c)).toInt = (u r).toInt + (v c).toInt
    omega
  have t0 : ∀ r, r < n → pd_C co r (f r) = (fun r => (u r).toInt) r + (fun c => (v c).toInt) (f r) := fun r hr => (ht r (f r)).mp (h.2 r hr).2.2
  refine ⟨(pd_tight hF2 h.1 t0 h.1).mpr t0, fun g hg r hr hag => ?_⟩
  have hgt := (pd_tight hF2 h.1 t0 hg.1).mp hg
  exact hl r hr g hg.1 (fun y hy => (ht y (g y)).mpr (hgt y hy)) hag
section ORDER
variable {p : Program} {l : Launch} {e : Env} {R : Room} {s : State} {m : MethodId} {args : Array Value} {below : List Frame} {meth : Method} {c : Code} {H : Heap} {locs : List Loc} {cells slots : Nat} {Q : State → Prop}
variable {pc : Nat} {ls : Array Slot} {rest : List Value} {dC : Nat → ClassId} {dI : Nat → Nat → Nat} {A : Nat → Prop} {nL : Nat}
variable {h : Nat} {ad : Nat → Nat} {cs : Nat → ClassId} {nn rk : Int32} {co : Nat → Int32} {u v : Nat → Int64} {ro cl : Nat → Int32} {wy : Nat → Int64} {be dn : Nat → Int32}
set_option maxHeartbeats 4000000 in
set_option maxRecDepth 100000 in
theorem order_cols {n : Nat} (S : CallFix p m c cX0_order 5 s args lw_all RX0) (hf : cells ≤ R.cells ∧ slots ≤ R.slots) (hA : ∀ q : Nat, s.heap.size ≤ q → A q) (hK : va_K (dC, dI) vwCl (pdT cs) s) (hn : n ≤ 8) (hA2 : ∀ c, c < n → ∃ r, r < n ∧ ro c = nI r) (hin : ∀ c c' r, c < n → c' < n → r < n → ro c = nI r → ro c' = nI r → c = c')
    (kt : ∀ (cl1 : Nat → Int32) (H : Heap) (locs : List Loc) (ls : Array Slot), (∀ c, c < n → ∃ r, r < n ∧ ro c = nI r ∧ cl1 r = nI c) → va_P (dC, dI) vwCl (pdW h ad cs (nI n) rk co u v ro cl1 wy be dn) H → va_D A (pdW h ad cs (nI n) rk co u v ro cl1 wy be dn) → va_S A s.heap H locs → lv_has ls 5 [(0, .ref h)] → W p l e R s m args below meth c H locs cells slots Q (F0 m 28 ls [])) :
    ∀ (j k : Nat) (cl1 : Nat → Int32) (H : Heap) (locs : List Loc) (ls : Array Slot), k + j = n → (∀ c, c < k → ∃ r, r < n ∧ ro c = nI r ∧ cl1 r = nI c) → va_P (dC, dI) vwCl (pdW h ad cs (nI n) rk co u v ro cl1 wy be dn) H → va_D A (pdW h ad cs (nI n) rk co u v ro cl1 wy be dn) → va_S A s.heap H locs → lv_has ls 5 [(0, .ref h), (1, .int (nI k))] → W p l e R s m args below meth c H locs cells slots Q (F0 m 2 ls []) := by
  obtain ⟨hx, hb, hml, hown, hts⟩ := id S
  intro j
  induction j with
  | zero =>
    intro k cl1 H locs ls hk hc hP hD hS hl
    refine lv_iload_n hx hb dX0_order_2 rfl (lv_at hl 1 rfl) ?_
    refine lv_aload_n hx hb dX0_order_3 rfl (lv_at hl 0 rfl) ?_
    refine pd_g_nn S hK hP dX0_order_4 ?_
    refine pn_ge (tgt := 28) hx hb (by omega) (by omega) dX0_order_7 (by decide) (fun q => ?_) (fun q => ?_)
    · exact kt cl1 H locs ls (fun c hc2 => hc c (by omega)) hP hD hS (lv_sub hl [0] rfl)
    · omega
  | succ j ih =>
    intro k cl1 H locs ls hk hc hP hD hS hl
    refine lv_iload_n hx hb dX0_order_2 rfl (lv_at hl 1 rfl) ?_
    refine lv_aload_n hx hb dX0_order_3 rfl (lv_at hl 0 rfl) ?_
    refine pd_g_nn S hK hP dX0_order_4 ?_
    refine pn_ge (tgt := 28) hx hb (by omega) (by omega) dX0_order_7 (by decide) (fun q => ?_) (fun q => ?_)
    · omega
    · obtain ⟨r, hr, er⟩ := hA2 k q
      refine lv_aload_n hx hb dX0_order_10 rfl (lv_at hl 0 rfl) ?_
      refine pd_g_cl S hK hP dX0_order_11 ?_
      refine lv_aload_n hx hb dX0_order_14 rfl (lv_at hl 0 rfl) ?_
      refine pd_g_ro S hK hP dX0_order_15 ?_
      refine lv_iload_n hx hb dX0_order_18 rfl (lv_at hl 1 rfl) ?_
      refine pd_ld_ro S hK hP (by omega) dX0_order_19 ?_
      refine pr_eqi (y := nI r) (er) ?_
      refine lv_iload_n hx hb dX0_order_20 rfl (lv_at hl 1 rfl) ?_
      refine pd_st_cl S hK hP hD hS (by omega) dX0_order_21 (fun H locs hP hD hS => ?_)
      refine lv_iinc (v := nI (k + 1)) (lv' := [(1, .int (nI (k + 1))), (0, .ref h)]) hx hb dX0_order_22 hl (k := 1) rfl (nI_1 k) (by decide) rfl (fun ls hl => ?_)
      refine lv_goto (tgt := 2) hx hb dX0_order_25 (by decide) ?_
      refine ih (k + 1) _ H locs ls (by omega) (fun c hc2 => ?_) hP hD hS (lv_sub hl [1, 0] rfl)
      by_cases e : c = k
      · subst e
        exact ⟨r, hr, er, pk_us⟩
      · obtain ⟨x, hx1, ex, ec⟩ := hc c (by omega)
        refine ⟨x, hx1, ex, ?_⟩
        rw [pk_un (fun z => by subst z; exact e (hin c k x (by omega) q hx1 ex er))]
        exact ec
set_option maxHeartbeats 4000000 in
set_option maxRecDepth 100000 in
theorem order_done {n r a i : Nat} (S : CallFix p m c cX0_order 5 s args lw_all RX0) (hf : cells ≤ R.cells ∧ slots ≤ R.slots) (hA : ∀ q : Nat, s.heap.size ≤ q → A q) (hK : va_K (dC, dI) vwCl (pdT cs) s) (hn : n ≤ 8) (hr : r < n) (hi : i < n) (hA2 : ∀ c, c < n → ∃ r, r < n ∧ ro c = nI r)
    (kt : ∀ (d : Nat → Int32) (H : Heap) (locs : List Loc) (ls : Array Slot), od_dnk n r i d ro n → va_P (dC, dI) vwCl (pdW h ad cs (nI n) rk co u v ro cl wy be d) H → va_D A (pdW h ad cs (nI n) rk co u v ro cl wy be d) → va_S A s.heap H locs → lv_has ls 5 [(0, .ref h), (1, .int (nI r)), (2, .int (nI a)), (3, .int (nI i))] → W p l e R s m args below meth c H locs cells slots Q (F0 m 123 ls [])) :
    ∀ (j k : Nat) (d : Nat → Int32) (H : Heap) (locs : List Loc) (ls : Array Slot), k + j = n → od_dnk n r i d ro k → va_P (dC, dI) vwCl (pdW h ad cs (nI n) rk co u v ro cl wy be d) H → va_D A (pdW h ad cs (nI n) rk co u v ro cl wy be d) → va_S A s.heap H locs → lv_has ls 5 [(0, .ref h), (1, .int (nI r)), (2, .int (nI a)), (3, .int (nI i)), (4, .int (nI k))] → W p l e R s m args below meth c H locs cells slots Q (F0 m 79 ls []) := by
  obtain ⟨hx, hb, hml, hown, hts⟩ := id S
  intro j
  induction j with
  | zero =>
    intro k d H locs ls hk hd hP hD hS hl
    refine lv_iload hx hb dX0_order_79 (lv_at hl 4 rfl) ?_
    refine lv_aload_n hx hb dX0_order_81 rfl (lv_at hl 0 rfl) ?_
    refine pd_g_nn S hK hP dX0_order_82 ?_
    refine pn_ge (tgt := 123) hx hb (by omega) (by omega) dX0_order_85 (by decide) (fun q => ?_) (fun q => ?_)
    · have e : k = n := by omega
      subst e
      exact kt d H locs ls hd hP hD hS (lv_sub hl [0, 1, 2, 3] rfl)
    · omega
  | succ j ih =>
    intro k d H locs ls hk hd hP hD hS hl
    refine lv_iload hx hb dX0_order_79 (lv_at hl 4 rfl) ?_
    refine lv_aload_n hx hb dX0_order_81 rfl (lv_at hl 0 rfl) ?_
    refine pd_g_nn S hK hP dX0_order_82 ?_
    refine pn_ge (tgt := 123) hx hb (by omega) (by omega) dX0_order_85 (by decide) (fun q => ?_) (fun q => ?_)
    · omega
    · obtain ⟨y, hy, ey⟩ := hA2 k q
      refine lv_aload_n hx hb dX0_order_88 rfl (lv_at hl 0 rfl) ?_
      refine pd_g_dn S hK hP dX0_order_89 ?_
      refine lv_iload hx hb dX0_order_92 (lv_at hl 4 rfl) ?_
      refine lv_aload_n hx hb dX0_order_94 rfl (lv_at hl 0 rfl) ?_
      refine pd_g_ro S hK hP dX0_order_95 ?_
      refine lv_iload hx hb dX0_order_98 (lv_at hl 4 rfl) ?_
      refine pd_ld_ro S hK hP (by omega) dX0_order_100 ?_
      refine pr_eqi (y := nI y) (ey) ?_
      refine lv_iload_n hx hb dX0_order_101 rfl (lv_at hl 1 rfl) ?_
      refine pn_lt (tgt := 111) hx hb (by omega) (by omega) dX0_order_102 (by decide) (fun q2 => ?_) (fun q2 => ?_)
      · refine lv_iconst (v := 1) hx hb dX0_order_111 (by decide) ?_
        refine lv_goto (tgt := 116) hx hb dX0_order_112 (by decide) ?_
        refine pd_st_dn S hK hP hD hS (by omega) (by decide) dX0_order_116 (fun H locs hP hD hS => ?_)
        refine lv_iinc (v := nI (k + 1)) (lv' := [(4, .int (nI (k + 1))), (0, .ref h), (1, .int (nI r)), (2, .int (nI a)), (3, .int (nI i))]) hx hb dX0_order_117 hl (k := 4) rfl (nI_1 k) (by decide) rfl (fun ls hl => ?_)
        refine lv_goto (tgt := 79) hx hb dX0_order_120 (by decide) ?_
        exact ih (k + 1) _ H locs ls (by omega) (od_dnk_s hn hy ey hd (⟨fun _ => Or.inl q2, fun _ => by decide⟩)) hP hD hS (lv_sub hl [1, 2, 3, 4, 0] rfl)
      · refine lv_iload hx hb dX0_order_105 (lv_at hl 4 rfl) ?_
        refine lv_iload_n hx hb dX0_order_107 rfl (lv_at hl 3 rfl) ?_
        refine pn_ne (tgt := 115) hx hb (by omega) (by omega) dX0_order_108 (by decide) (fun q3 => ?_) (fun q3 => ?_)
        · refine lv_iconst (v := 0) hx hb dX0_order_115 (by decide) ?_
          refine pd_st_dn S hK hP hD hS (by omega) (by decide) dX0_order_116 (fun H locs hP hD hS => ?_)
          refine lv_iinc (v := nI (k + 1)) (lv' := [(4, .int (nI (k + 1))), (0, .ref h), (1, .int (nI r)), (2, .int (nI a)), (3, .int (nI i))]) hx hb dX0_order_117 hl (k := 4) rfl (nI_1 k) (by decide) rfl (fun ls hl => ?_)
          refine lv_goto (tgt := 79) hx hb dX0_order_120 (by decide) ?_
          exact ih (k + 1) _ H locs ls (by omega) (od_dnk_s hn hy ey hd (⟨fun w => absurd rfl w, fun w => by rcases w with w | w <;> omega⟩)) hP hD hS (lv_sub hl [1, 2, 3, 4, 0] rfl)
        · refine lv_iconst (v := 1) hx hb dX0_order_111 (by decide) ?_
          refine lv_goto (tgt := 116) hx hb dX0_order_112 (by decide) ?_
          refine pd_st_dn S hK hP hD hS (by omega) (by decide) dX0_order_116 (fun H locs hP hD hS => ?_)
          refine lv_iinc (v := nI (k + 1)) (lv' := [(4, .int (nI (k + 1))), (0, .ref h), (1, .int (nI r)), (2, .int (nI a)), (3, .int (nI i))]) hx hb dX0_order_117 hl (k := 4) rfl (nI_1 k) (by decide) rfl (fun ls hl => ?_)
          refine lv_goto (tgt := 79) hx hb dX0_order_120 (by decide) ?_
          exact ih (k + 1) _ H locs ls (by omega) (od_dnk_s hn hy ey hd (⟨fun _ => Or.inr q3, fun _ => by decide⟩)) hP hD hS (lv_sub hl [1, 2, 3, 4, 0] rfl)
set_option maxHeartbeats 4000000 in
set_option maxRecDepth 100000 in
theorem order_row {n r : Nat} {f : Nat → Nat} (S : CallFix p m c cX0_order 5 s args lw_all RX0) (hf : cells ≤ R.cells ∧ slots ≤ R.slots) (hA : ∀ q : Nat, s.heap.size ≤ q → A q) (hK : va_K (dC, dI) vwCl (pdT cs) s) (hR : 10 ≤ R.frames ∧ 237 ≤ R.locals) (hn : n ≤ 8) (hbd : pl_bnd n u v) (hr : r < n) (hof : od_f (pl_t co u v) n ro cl f)
    (kt : ∀ (f1 : Nat → Nat) (ro cl dn : Nat → Int32) (H : Heap) (locs : List Loc) (ls : Array Slot), od_f (pl_t co u v) n ro cl f1 → (∀ r', r' < r → f1 r' = f r') → od_low (pl_t co u v) n f r (f1 r) → va_P (dC, dI) vwCl (pdW h ad cs (nI n) rk co u v ro cl wy be dn) H → va_D A (pdW h ad cs (nI n) rk co u v ro cl wy be dn) → va_S A s.heap H locs → lv_has ls 5 [(0, .ref h), (1, .int (nI r))] → W p l e R s m args below meth c H locs cells slots Q (F0 m 167 ls [])) :
    ∀ (j k : Nat) (dn : Nat → Int32) (H : Heap) (locs : List Loc) (ls : Array Slot), k + j = f r → od_low (pl_t co u v) n f r k → va_P (dC, dI) vwCl (pdW h ad cs (nI n) rk co u v ro cl wy be dn) H → va_D A (pdW h ad cs (nI n) rk co u v ro cl wy be dn) → va_S A s.heap H locs → lv_has ls 5 [(0, .ref h), (1, .int (nI r)), (2, .int (nI (f r))), (3, .int (nI k))] → W p l e R s m args below meth c H locs cells slots Q (F0 m 47 ls []) := by
  obtain ⟨hx, hb, hml, hown, hts⟩ := id S
  have hfr : f r < n := hof.1.1 r hr
  have hR1 : 1 ≤ R.frames ∧ 30 ≤ R.locals := ⟨by omega, by omega⟩
  intro j
  induction j with
  | zero =>
    intro k dn H locs ls hk hlow hP hD hS hl
    refine lv_iload_n hx hb dX0_order_47 rfl (lv_at hl 3 rfl) ?_
    refine lv_iload_n hx hb dX0_order_48 rfl (lv_at hl 2 rfl) ?_
    refine pn_ge (tgt := 167) hx hb (by omega) (by omega) dX0_order_49 (by decide) (fun q => ?_) (fun q => ?_)
    · have e : k = f r := by omega
      exact kt f ro cl dn H locs ls hof (fun _ _ => rfl) (by rw [← e]; exact hlow) hP hD hS (lv_sub hl [0, 1] rfl)
    · omega
  | succ j ih =>
    intro k dn H locs ls hk hlow hP hD hS hl
    refine lv_iload_n hx hb dX0_order_47 rfl (lv_at hl 3 rfl) ?_
    refine lv_iload_n hx hb dX0_order_48 rfl (lv_at hl 2 rfl) ?_
    refine pn_ge (tgt := 167) hx hb (by omega) (by omega) dX0_order_49 (by decide) (fun q => ?_) (fun q => ?_)
    · omega
    · obtain ⟨x, hxn, hfx, ex, ecx, -⟩ := od_at hof (show k < n by omega)
      refine lv_aload_n hx hb dX0_order_52 rfl (lv_at hl 0 rfl) ?_
      refine pd_g_ro S hK hP dX0_order_53 ?_
      refine lv_iload_n hx hb dX0_order_56 rfl (lv_at hl 3 rfl) ?_
      refine pd_ld_ro S hK hP (by omega) dX0_order_57 ?_
      refine pr_eqi (y := nI x) (ex) ?_
      refine lv_iload_n hx hb dX0_order_58 rfl (lv_at hl 1 rfl) ?_
      refine pn_lt (tgt := 161) hx hb (by omega) (by omega) dX0_order_59 (by decide) (fun q2 => ?_) (fun q2 => ?_)
      · refine lv_iinc (v := nI (k + 1)) (lv' := [(3, .int (nI (k + 1))), (0, .ref h), (1, .int (nI r)), (2, .int (nI (f r)))]) hx hb dX0_order_161 hl (k := 3) rfl (nI_1 k) (by decide) rfl (fun ls hl => ?_)
        refine lv_goto (tgt := 47) hx hb dX0_order_164 (by decide) ?_
        exact ih (k + 1) dn H locs ls (by omega) (od_low_s hlow (fun g h1 h2 h3 w => by
          have h4 := h3 x q2
          rw [hfx, ← w] at h4
          have := h1.2 x r hxn hr h4
          omega)) hP hD hS (lv_sub hl [1, 2, 3, 0] rfl)
      · have hrx : r < x := by
          have : x ≠ r := fun w => by
            subst w
            omega
          omega
        refine lv_aload_n hx hb dX0_order_62 rfl (lv_at hl 0 rfl) ?_
        refine lv_iload_n hx hb dX0_order_63 rfl (lv_at hl 1 rfl) ?_
        refine lv_iload_n hx hb dX0_order_64 rfl (lv_at hl 3 rfl) ?_
        refine pd_over S hR1 hf hA hK hP hD hS hl.1 (by omega) (by omega) (Nat.le_of_ble_eq_true rfl) dX0_order_65 (fun H locs hP hD hS => ?_)
        refine lv_lconst (v := 0) hx hb dX0_order_68 (by decide) ?_
        refine W.lcmp hx hb dX0_order_69 ?_
        refine lv_if_eq (tgt := 76) hx hb dX0_order_70 (by decide) (fun q3 => ?_) (fun q3 => ?_)
        · have ht : pl_t co u v r k := (pl_t0 hbd hr (by omega)).mp ((lg_cmp_eq _ _).mp q3)
          refine lv_iconst (v := nI 0) hx hb dX0_order_76 (by decide) ?_
          refine lv_istore (lv' := [(4, .int (nI 0)), (0, .ref h), (1, .int (nI r)), (2, .int (nI (f r))), (3, .int (nI k))]) hx hb dX0_order_77 hl (by decide) rfl (fun ls hl => ?_)
          refine order_done S hf hA hK hn hr (show k < n by omega) (fun c hc => ?_) (fun d H locs ls hdk hP hD hS hl => ?_) n 0 dn H locs ls (by omega) (fun k2 y w => by omega) hP hD hS (lv_sub hl [1, 2, 3, 4, 0] rfl)
          · obtain ⟨y, hy, -, e, -⟩ := od_at hof hc
            exact ⟨y, hy, e⟩
          · have hdn : od_dn n r k d ro := hdk
            have hpre := od_pre hn hof hr (show k < n by omega) ex hxn hrx hdn
            refine lv_aload_n hx hb dX0_order_123 rfl (lv_at hl 0 rfl) ?_
            refine pd_g_ro S hK hP dX0_order_124 ?_
            refine lv_iload_n hx hb dX0_order_127 rfl (lv_at hl 3 rfl) ?_
            refine pd_ld_ro S hK hP (by omega) dX0_order_128 ?_
            refine pr_eqi (y := nI x) (ex) ?_
            refine lv_istore (lv' := [(4, .int (nI x)), (0, .ref h), (1, .int (nI r)), (2, .int (nI (f r))), (3, .int (nI k))]) hx hb dX0_order_129 hl (by decide) rfl (fun ls hl => ?_)
            refine lv_aload_n hx hb dX0_order_131 rfl (lv_at hl 1 rfl) ?_
            refine lv_iload hx hb dX0_order_132 (lv_at hl 0 rfl) ?_
            refine lv_iload_n hx hb dX0_order_134 rfl (lv_at hl 3 rfl) ?_
            refine pd_cVi (wr := []) S (met_find l dC dI h ad cs rk co u v wy be n (f r) ro cl hn hbd 8 x d H.size hpre (by have := fd_u_le d n; omega)) (cwV 2 S.2.2.2.2 (lw_V q91 q93 qs4 q7 q94) rfl rfl rfl (by decide +kernel) ⟨by show 8 + 1 + 1 ≤ _; have := hR.1; omega, by show 8 + (4 + 11) + (30 + 23 * 8) ≤ _; have := hR.2; omega⟩) hf hA hK hP pd_nil (pd_an hD) hS (va_recv hK hP (ci := 0) (q0 := 0) rfl rfl) rfl hl.1 rfl (Nat.le_of_ble_eq_true rfl) dX0_order_135 (fun z g H locs hw hP _ hD hS => ?_)
            obtain ⟨ro1, cl1, d1⟩ := g
            have hP : va_P (dC, dI) vwCl (pdW h ad cs (nI n) rk co u v ro1 cl1 wy be d1) H := hP
            have hD : va_D A (pdW h ad cs (nI n) rk co u v ro1 cl1 wy be d1) := pd_na hD
            refine lv_if_ne (tgt := 144) hx hb dX0_order_138 (by decide) (fun q4 => ?_) (fun q4 => ?_)
            · have hok : fd_ok (pl_t co u v) n x (f r) d ro cl ro1 cl1 := by
                rcases hw with hw | hw
                · exact absurd hw.1 q4
                · exact hw.2
              obtain ⟨f1, hf1, hf2, hf3⟩ := od_yes hn hof hr (show k < n by omega) ex hxn hrx hdn ht hok
              refine lv_aload_n hx hb dX0_order_144 rfl (lv_at hl 1 rfl) ?_
              refine pd_g_ro S hK hP dX0_order_145 ?_
              refine lv_iload_n hx hb dX0_order_148 rfl (lv_at hl 4 rfl) ?_
              refine lv_iload_n hx hb dX0_order_149 rfl (lv_at hl 2 rfl) ?_
              refine pd_st_ro S hK hP hD hS (by omega) dX0_order_150 (fun H locs hP hD hS => ?_)
              refine lv_aload_n hx hb dX0_order_151 rfl (lv_at hl 1 rfl) ?_
              refine pd_g_cl S hK hP dX0_order_152 ?_
              refine lv_iload_n hx hb dX0_order_155 rfl (lv_at hl 2 rfl) ?_
              refine lv_iload_n hx hb dX0_order_156 rfl (lv_at hl 4 rfl) ?_
              refine pd_st_cl S hK hP hD hS (by omega) dX0_order_157 (fun H locs hP hD hS => ?_)
              refine lv_goto (tgt := 167) hx hb dX0_order_158 (by decide) ?_
              exact kt f1 _ _ d1 H locs ls hf1 hf2 (by rw [hf3]; exact hlow) hP hD hS (lv_sub hl [1, 2] rfl)
            · obtain ⟨-, e1, e2, hno⟩ : z = 0 ∧ ro1 = ro ∧ cl1 = cl ∧ fd_no (pl_t co u v) n x (f r) d d1 ro := by
                rcases hw with hw | hw
                · exact hw
                · rw [hw.1] at q4
                  exact absurd q4 (by decide)
              rw [e1, e2] at hP hD
              refine lv_goto (tgt := 161) hx hb dX0_order_141 (by decide) ?_
              refine lv_iinc (v := nI (k + 1)) (lv' := [(3, .int (nI (k + 1))), (4, .int (nI x)), (0, .ref h), (1, .int (nI r)), (2, .int (nI (f r)))]) hx hb dX0_order_161 hl (k := 4) rfl (nI_1 k) (by decide) rfl (fun ls hl => ?_)
              refine lv_goto (tgt := 47) hx hb dX0_order_164 (by decide) ?_
              exact ih (k + 1) d1 H locs ls (by omega) (od_low_s hlow (fun g h1 h2 h3 w => od_no hn hof hr (show k < n by omega) ex hxn hrx hdn hno h1 h2 h3 w)) hP hD hS (lv_sub hl [2, 3, 4, 0] rfl)
        · refine lv_goto (tgt := 161) hx hb dX0_order_73 (by decide) ?_
          refine lv_iinc (v := nI (k + 1)) (lv' := [(3, .int (nI (k + 1))), (0, .ref h), (1, .int (nI r)), (2, .int (nI (f r)))]) hx hb dX0_order_161 hl (k := 3) rfl (nI_1 k) (by decide) rfl (fun ls hl => ?_)
          refine lv_goto (tgt := 47) hx hb dX0_order_164 (by decide) ?_
          exact ih (k + 1) dn H locs ls (by omega) (od_low_s hlow (fun g h1 h2 h3 w => by
            have h4 := h2 r hr
            rw [w] at h4
            exact q3 ((lg_cmp_eq _ _).mpr ((pl_t0 hbd hr (by omega)).mpr h4)))) hP hD hS (lv_sub hl [1, 2, 3, 0] rfl)
set_option maxHeartbeats 4000000 in
set_option maxRecDepth 100000 in
theorem order_all {n : Nat} (S : CallFix p m c cX0_order 5 s args lw_all RX0) (hf : cells ≤ R.cells ∧ slots ≤ R.slots) (hA : ∀ q : Nat, s.heap.size ≤ q → A q) (hK : va_K (dC, dI) vwCl (pdT cs) s) (hR : 10 ≤ R.frames ∧ 237 ≤ R.locals) (hn : n ≤ 8) (hbd : pl_bnd n u v)
    (kt : ∀ (f : Nat → Nat) (ro cl dn : Nat → Int32) (H : Heap) (locs : List Loc) (ls : Array Slot), od_f (pl_t co u v) n ro cl f → (∀ r, r < n → od_low (pl_t co u v) n f r (f r)) → va_P (dC, dI) vwCl (pdW h ad cs (nI n) rk co u v ro cl wy be dn) H → va_D A (pdW h ad cs (nI n) rk co u v ro cl wy be dn) → va_S A s.heap H locs → W p l e R s m args below meth c H locs cells slots Q (F0 m 173 ls [])) :
    ∀ (j r : Nat) (f : Nat → Nat) (ro cl dn : Nat → Int32) (H : Heap) (locs : List Loc) (ls : Array Slot), r + j = n → od_f (pl_t co u v) n ro cl f → (∀ r', r' < r → od_low (pl_t co u v) n f r' (f r')) → va_P (dC, dI) vwCl (pdW h ad cs (nI n) rk co u v ro cl wy be dn) H → va_D A (pdW h ad cs (nI n) rk co u v ro cl wy be dn) → va_S A s.heap H locs → lv_has ls 5 [(0, .ref h), (1, .int (nI r))] → W p l e R s m args below meth c H locs cells slots Q (F0 m 30 ls []) := by
  obtain ⟨hx, hb, hml, hown, hts⟩ := id S
  intro j
  induction j with
  | zero =>
    intro r f ro cl dn H locs ls hk hof hlow hP hD hS hl
    refine lv_iload_n hx hb dX0_order_30 rfl (lv_at hl 1 rfl) ?_
    refine lv_aload_n hx hb dX0_order_31 rfl (lv_at hl 0 rfl) ?_
    refine pd_g_nn S hK hP dX0_order_32 ?_
    refine pn_ge (tgt := 173) hx hb (by omega) (by omega) dX0_order_35 (by decide) (fun q => ?_) (fun q => ?_)
    · exact kt f ro cl dn H locs ls hof (fun x hx1 => hlow x (by omega)) hP hD hS
    · omega
  | succ j ih =>
    intro r f ro cl dn H locs ls hk hof hlow hP hD hS hl
    refine lv_iload_n hx hb dX0_order_30 rfl (lv_at hl 1 rfl) ?_
    refine lv_aload_n hx hb dX0_order_31 rfl (lv_at hl 0 rfl) ?_
    refine pd_g_nn S hK hP dX0_order_32 ?_
    refine pn_ge (tgt := 173) hx hb (by omega) (by omega) dX0_order_35 (by decide) (fun q => ?_) (fun q => ?_)
    · omega
    · refine lv_aload_n hx hb dX0_order_38 rfl (lv_at hl 0 rfl) ?_
      refine pd_g_cl S hK hP dX0_order_39 ?_
      refine lv_iload_n hx hb dX0_order_42 rfl (lv_at hl 1 rfl) ?_
      refine pd_ld_cl S hK hP (by omega) dX0_order_43 ?_
      refine pr_eqi (y := nI (f r)) ((hof.2 r q).1) ?_
      refine lv_istore_n (lv' := [(2, .int (nI (f r))), (0, .ref h), (1, .int (nI r))]) hx hb dX0_order_44 rfl hl (by decide) rfl (fun ls hl => ?_)
      refine lv_iconst (v := nI 0) hx hb dX0_order_45 (by decide) ?_
      refine lv_istore_n (lv' := [(3, .int (nI 0)), (2, .int (nI (f r))), (0, .ref h), (1, .int (nI r))]) hx hb dX0_order_46 rfl hl (by decide) rfl (fun ls hl => ?_)
      refine order_row (f := f) S hf hA hK hR hn hbd q hof (fun f1 ro cl dn H locs ls hof1 hag hlo hP hD hS hl => ?_) (f r) 0 dn H locs ls (by omega) (fun _ _ _ _ => Nat.zero_le _) hP hD hS (lv_sub hl [2, 3, 1, 0] rfl)
      refine lv_iinc (v := nI (r + 1)) (lv' := [(1, .int (nI (r + 1))), (0, .ref h)]) hx hb dX0_order_167 hl (k := 1) rfl (nI_1 r) (by decide) rfl (fun ls hl => ?_)
      refine lv_goto (tgt := 30) hx hb dX0_order_170 (by decide) ?_
      refine ih (r + 1) f1 ro cl dn H locs ls (by omega) hof1 (fun x hx1 g h1 h2 h3 => ?_) hP hD hS (lv_sub hl [1, 0] rfl)
      by_cases e : x = r
      · subst e
        exact hlo g h1 h2 (fun y hy => by rw [h3 y hy, hag y hy])
      · rw [hag x (by omega)]
        exact hlow x (by omega) g h1 h2 (fun y hy => by rw [h3 y hy, hag y (by omega)])
end ORDER
set_option maxHeartbeats 4000000 in
set_option maxRecDepth 100000 in
theorem met_order (l : Launch) (dC : Nat → ClassId) (dI : Nat → Nat → Nat) (h : Nat) (ad : Nat → Nat) (cs : Nat → ClassId) (rk : Int32) (co : Nat → Int32) (u v : Nat → Int64) (ro cl : Nat → Int32) (wy : Nat → Int64) (be dn : Nat → Int32) (n : Nat) (hn : n ≤ 8) (h0 : 0 < n) (hp : pl_P n n co u v ro) (hv0 : ∃ c, c < n ∧ (v c).toInt = 0) (sz : Nat) : Met l yX0_order (ws_ yX0_order cX0_order 5 none) ({ frames := 10, cells := 0, slots := 0, locals := 237 } : Room) (va_Pc [.ref h] (pdPre dC dI (pdT cs) sz (pdW h ad cs (nI n) rk co u v ro cl wy be dn))) (va_Qv (fun (g : (Nat → Int32) × (Nat → Int32) × (Nat → Int32)) => ∃ f, pd_lex (pd_C co) n f ∧ ∀ r, r < n → g.2.1 r = nI (f r)) (fun g t => pdPost dC dI (va_A (pdW h ad cs (nI n) rk co u v ro cl wy be dn) sz) (pdW h ad cs (nI n) rk co u v g.1 g.2.1 wy be g.2.2) t) (va_A (pdW h ad cs (nI n) rk co u v ro cl wy be dn) sz)) 0 0 (va_A (pdW h ad cs (nI n) rk co u v ro cl wy be dn) sz) := by
  refine Met.ofW (cc := cX0_order) (maxL := 5) (ret := none) (by decide) rfl ?_
  intro p e s m args below meth c s₁ B hml hv
  obtain ⟨rfl, hsz, hP, hK, hD0⟩ := hv
  have hx := B.exec
  have hb := B.bytes
  have hr := B.returns
  have hts0 := atoms_spec (ws := ws_ yX0_order cX0_order 5 none) B.pre
  have hts : ∀ w ∈ lw_all, w.before _ s = true := fun w h => hts0 w (List.mem_cons_of_mem _ h)
  have hown : s.vm.findClass RX0 = some m.cls := findClass_of_methodNamed B.named
  have hlocks := B.notSynchronized
  have S : CallFix p m c cX0_order 5 s ([.ref h] : List Value).toArray lw_all RX0 := ⟨hx, hb, hml, hown, hts⟩
  subst hsz
  have hD := hD0.self (sz := s.heap.size)
  generalize hAe : va_A (pdW h ad cs (nI n) rk co u v ro cl wy be dn) s.heap.size = A at hD ⊢
  have hA : ∀ q : Nat, s.heap.size ≤ q → A q := fun q h => by rw [← hAe]; exact Or.inr h
  have hS : va_S A s.heap s.heap [] := va_S.rf
  have hl := lv_entry ([.ref h]) (n := 5) (Nat.le_of_ble_eq_true rfl)
  rw [lg_entry_eq]
  generalize (lg_sl ([.ref h]) ++ List.replicate (5 - (lg_sl ([.ref h])).length) Slot.unset).toArray = ls at hl ⊢
  have hl : lv_has ls 5 [(0, .ref h)] := hl
  have hf : (0 : Nat) ≤ 0 ∧ (0 : Nat) ≤ 0 := ⟨Nat.le_refl _, Nat.le_refl _⟩
  have hbd : pl_bnd n u v := pl_end_bd hp hv0
  obtain ⟨hF, hM⟩ := pl_end hn h0 hp
  refine lv_iconst (v := nI 0) hx hb dX0_order_0 (by decide) ?_
  refine lv_istore_n (lv' := [(1, .int (nI 0)), (0, .ref h)]) hx hb dX0_order_1 rfl hl (by decide) rfl (fun ls hl => ?_)
  refine order_cols S hf hA hK hn (fun c hc => ?_) hp.1.2.2 (fun cl1 H locs ls hcl hP hD hS hl => ?_) n 0 cl s.heap [] ls (by omega) (fun c hc => by omega) hP hD hS (lv_sub hl [1, 0] rfl)
  · obtain ⟨r, hr, e, -⟩ := hM c hc
    exact ⟨r, hr, e⟩
  · obtain ⟨f, hof⟩ : ∃ f, od_f (pl_t co u v) n ro cl1 f := by
      refine od_of hn (fun k hk => ?_)
      obtain ⟨r, hr, e, e2⟩ := hM k hk
      obtain ⟨x, hx1, ex, ec⟩ := hcl k hk
      rw [e] at ex
      have := fd_inj (n := n) (by omega) hr hx1 ex
      subst this
      exact ⟨r, hr, e, ec, e2⟩
    refine lv_iconst (v := nI 0) hx hb dX0_order_28 (by decide) ?_
    refine lv_istore_n (lv' := [(1, .int (nI 0)), (0, .ref h)]) hx hb dX0_order_29 rfl hl (by decide) rfl (fun ls hl => ?_)
    refine order_all S hf hA hK ⟨Nat.le_refl _, Nat.le_refl _⟩ hn hbd (fun f2 ro2 cl2 dn2 H locs ls hof2 hlow2 hP hD hS => ?_) n 0 f ro cl1 dn H locs ls (by omega) hof (fun r hr => by omega) hP hD hS (lv_sub hl [1, 0] rfl)
    exact W.vret hx hb hr (fun t ht hW => ⟨⟨(ro2, cl2, dn2), rfl, ⟨f2, od_lex hF hof2 hlow2, fun r hr => (hof2.2 r hr).1⟩, by rw [ht]; exact hP, hD⟩, hS.F ht⟩) hS.2.2 dX0_order_173
end
section
/-! least of the desk -/
set_option maxRecDepth 100000
theorem pd_C_bd (co : Nat → Int32) (r c : Nat) : -2147483648 ≤ pd_C co r c ∧ pd_C co r c ≤ 2147483648 := by
  have := pl_C co (8 * r + c)
  unfold pd_C
  omega
/-- a long of a sum of at most eight costs, and one more -/
theorem pd_sum1 {co : Nat → Int32} {g : Nat → Nat} {k : Nat} {z : Int64} (hk : k < 8) (hz : z.toInt = pd_S (fun r => pd_C co r (g r)) k) : (z + (co (8 * k + g k)).toInt64).toInt = pd_S (fun r => pd_C co r (g r)) (k + 1) := by
  have h1 := pd_S_bd (f := fun r => pd_C co r (g r)) (fun r => pd_C_bd co r (g r)) k
  have h2 := pl_C co (8 * k + g k)
  rw [Jvm.Kit.i64_add (by rw [Jvm.Kit.i64_of_i32, hz]; omega) (by rw [Jvm.Kit.i64_of_i32, hz]; omega), Jvm.Kit.i64_of_i32, hz, pd_S_s]
  rfl
section LEAST
variable {p : Program} {l : Launch} {e : Env} {R : Room} {s : State} {m : MethodId} {args : Array Value} {below : List Frame} {meth : Method} {c : Code} {H : Heap} {locs : List Loc} {cells slots : Nat} {Q : State → Prop}
variable {pc : Nat} {ls : Array Slot} {rest : List Value} {dC : Nat → ClassId} {dI : Nat → Nat → Nat} {A : Nat → Prop} {nL : Nat}
variable {h : Nat} {ad : Nat → Nat} {cs : Nat → ClassId} {nn rk : Int32} {co : Nat → Int32} {u v : Nat → Int64} {ro cl : Nat → Int32} {wy : Nat → Int64} {be dn : Nat → Int32}
set_option maxHeartbeats 4000000 in
set_option maxRecDepth 100000 in
theorem least_places {n : Nat} (S : CallFix p m c cX0_least 4 s args lw_all RX0) (hf : cells ≤ R.cells ∧ slots ≤ R.slots) (hA : ∀ q : Nat, s.heap.size ≤ q → A q) (hK : va_K (dC, dI) vwCl (pdT cs) s) (hR : 11 ≤ R.frames ∧ 261 ≤ R.locals) (hn : n ≤ 8)
    (kt : ∀ (u v : Nat → Int64) (ro : Nat → Int32) (wy : Nat → Int64) (be dn : Nat → Int32) (H : Heap) (locs : List Loc) (ls : Array Slot), pl_P n n co u v ro → (0 < n → ∃ c, c < n ∧ (v c).toInt = 0) → va_P (dC, dI) vwCl (pdW h ad cs (nI n) rk co u v ro cl wy be dn) H → va_D A (pdW h ad cs (nI n) rk co u v ro cl wy be dn) → va_S A s.heap H locs → lv_has ls 4 [(0, .ref h)] → W p l e R s m args below meth c H locs cells slots Q (F0 m 45 ls [])) :
    ∀ (j k : Nat) (u v : Nat → Int64) (ro : Nat → Int32) (wy : Nat → Int64) (be dn : Nat → Int32) (H : Heap) (locs : List Loc) (ls : Array Slot), k + j = n → pl_P n k co u v ro → (0 < k → ∃ c, c < n ∧ (v c).toInt = 0) → va_P (dC, dI) vwCl (pdW h ad cs (nI n) rk co u v ro cl wy be dn) H → va_D A (pdW h ad cs (nI n) rk co u v ro cl wy be dn) → va_S A s.heap H locs → lv_has ls 4 [(0, .ref h), (1, .int (nI k))] → W p l e R s m args below meth c H locs cells slots Q (F0 m 26 ls []) := by
  obtain ⟨hx, hb, hml, hown, hts⟩ := id S
  intro j
  induction j with
  | zero =>
    intro k u v ro wy be dn H locs ls hk hp hv0 hP hD hS hl
    refine lv_iload_n hx hb dX0_least_26 rfl (lv_at hl 1 rfl) ?_
    refine lv_aload_n hx hb dX0_least_27 rfl (lv_at hl 0 rfl) ?_
    refine pd_g_nn S hK hP dX0_least_28 ?_
    refine pn_ge (tgt := 45) hx hb (by omega) (by omega) dX0_least_31 (by decide) (fun q => ?_) (fun q => ?_)
    · have e : k = n := by omega
      subst e
      exact kt u v ro wy be dn H locs ls hp hv0 hP hD hS (lv_sub hl [0] rfl)
    · omega
  | succ j ih =>
    intro k u v ro wy be dn H locs ls hk hp hv0 hP hD hS hl
    refine lv_iload_n hx hb dX0_least_26 rfl (lv_at hl 1 rfl) ?_
    refine lv_aload_n hx hb dX0_least_27 rfl (lv_at hl 0 rfl) ?_
    refine pd_g_nn S hK hP dX0_least_28 ?_
    refine pn_ge (tgt := 45) hx hb (by omega) (by omega) dX0_least_31 (by decide) (fun q => ?_) (fun q => ?_)
    · omega
    · refine lv_aload_n hx hb dX0_least_34 rfl (lv_at hl 0 rfl) ?_
      refine lv_iload_n hx hb dX0_least_35 rfl (lv_at hl 1 rfl) ?_
      refine pd_cVv (wr := []) S (met_place l dC dI h ad cs rk co u v ro cl wy be dn n k hn q hp H.size) (cwV 1 S.2.2.2.2 (lw_V q75 q77 qs1 q7 q78) rfl rfl rfl (by decide +kernel) ⟨by show 1 + 1 ≤ _; have := hR.1; omega, by show 8 + (8 + 11) + 30 ≤ _; have := hR.2; omega⟩) hf hA hK hP pd_nil (pd_an hD) hS (va_recv hK hP (ci := 0) (q0 := 0) rfl rfl) rfl hl.1 rfl (Nat.le_of_ble_eq_true rfl) dX0_least_36 (fun g H locs hw hP _ hD hS => ?_)
      obtain ⟨u1, v1, ro1, wy1, be1, dn1⟩ := g
      have hP : va_P (dC, dI) vwCl (pdW h ad cs (nI n) rk co u1 v1 ro1 cl wy1 be1 dn1) H := hP
      have hD : va_D A (pdW h ad cs (nI n) rk co u1 v1 ro1 cl wy1 be1 dn1) := pd_na hD
      obtain ⟨hp1, hv1⟩ : pl_P n (k + 1) co u1 v1 ro1 ∧ ∃ c, c < n ∧ (v1 c).toInt = 0 := hw
      refine lv_iinc (v := nI (k + 1)) (lv' := [(1, .int (nI (k + 1))), (0, .ref h)]) hx hb dX0_least_39 hl (k := 1) rfl (nI_1 k) (by decide) rfl (fun ls hl => ?_)
      refine lv_goto (tgt := 26) hx hb dX0_least_42 (by decide) ?_
      exact ih (k + 1) u1 v1 ro1 wy1 be1 dn1 H locs ls (by omega) hp1 (fun _ => hv1) hP hD hS (lv_sub hl [1, 0] rfl)
set_option maxHeartbeats 4000000 in
set_option maxRecDepth 100000 in
theorem least_sum {n : Nat} {f : Nat → Nat} (S : CallFix p m c cX0_least 4 s args lw_all RX0) (hf : cells ≤ R.cells ∧ slots ≤ R.slots) (hA : ∀ q : Nat, s.heap.size ≤ q → A q) (hK : va_K (dC, dI) vwCl (pdT cs) s) (hn : n ≤ 8) (hg : pd_giv n f) (hcl : ∀ r, r < n → cl r = nI (f r))
    (kt : ∀ (z : Int64) (H : Heap) (locs : List Loc) (ls : Array Slot), z.toInt = pd_cost (pd_C co) n f → va_P (dC, dI) vwCl (pdW h ad cs (nI n) rk co u v ro cl wy be dn) H → va_D A (pdW h ad cs (nI n) rk co u v ro cl wy be dn) → va_S A s.heap H locs → lv_has ls 4 [(1, .long z)] → W p l e R s m args below meth c H locs cells slots Q (F0 m 92 ls [])) :
    ∀ (j k : Nat) (z : Int64) (H : Heap) (locs : List Loc) (ls : Array Slot), k + j = n → z.toInt = pd_S (fun r => pd_C co r (f r)) k → va_P (dC, dI) vwCl (pdW h ad cs (nI n) rk co u v ro cl wy be dn) H → va_D A (pdW h ad cs (nI n) rk co u v ro cl wy be dn) → va_S A s.heap H locs → lv_has ls 4 [(0, .ref h), (1, .long z), (3, .int (nI k))] → W p l e R s m args below meth c H locs cells slots Q (F0 m 58 ls []) := by
  obtain ⟨hx, hb, hml, hown, hts⟩ := id S
  intro j
  induction j with
  | zero =>
    intro k z H locs ls hk hz hP hD hS hl
    refine lv_iload_n hx hb dX0_least_58 rfl (lv_at hl 2 rfl) ?_
    refine lv_aload_n hx hb dX0_least_59 rfl (lv_at hl 0 rfl) ?_
    refine pd_g_nn S hK hP dX0_least_60 ?_
    refine pn_ge (tgt := 92) hx hb (by omega) (by omega) dX0_least_63 (by decide) (fun q => ?_) (fun q => ?_)
    · have e : k = n := by omega
      subst e
      exact kt z H locs ls hz hP hD hS (lv_sub hl [1] rfl)
    · omega
  | succ j ih =>
    intro k z H locs ls hk hz hP hD hS hl
    refine lv_iload_n hx hb dX0_least_58 rfl (lv_at hl 2 rfl) ?_
    refine lv_aload_n hx hb dX0_least_59 rfl (lv_at hl 0 rfl) ?_
    refine pd_g_nn S hK hP dX0_least_60 ?_
    refine pn_ge (tgt := 92) hx hb (by omega) (by omega) dX0_least_63 (by decide) (fun q => ?_) (fun q => ?_)
    · omega
    · have hfk := hg.1 k q
      refine lv_lload_n hx hb dX0_least_66 rfl (lv_at hl 1 rfl) ?_
      refine lv_aload_n hx hb dX0_least_67 rfl (lv_at hl 0 rfl) ?_
      refine pd_g_co S hK hP dX0_least_68 ?_
      refine lv_bipush (v := nI 8) hx hb dX0_least_71 (by decide) ?_
      refine lv_iload_n hx hb dX0_least_73 rfl (lv_at hl 2 rfl) ?_
      refine lv_imul hx hb dX0_least_74 ?_
      refine lv_aload_n hx hb dX0_least_75 rfl (lv_at hl 0 rfl) ?_
      refine pd_g_cl S hK hP dX0_least_76 ?_
      refine lv_iload_n hx hb dX0_least_79 rfl (lv_at hl 2 rfl) ?_
      refine pd_ld_cl S hK hP (by omega) dX0_least_80 ?_
      refine pr_eqi (y := nI (f k)) (hcl k q) ?_
      refine lv_iadd hx hb dX0_least_81 ?_
      refine pr_eqi (y := nI (8 * k + f k)) (by rw [pk_mul, nI_add]) ?_
      refine pd_ld_co S hK hP (by omega) dX0_least_82 ?_
      refine lv_i2l hx hb dX0_least_83 rfl ?_
      refine lv_ladd hx hb dX0_least_84 ?_
      refine lv_lstore_n (lv' := [(1, .long (z + ((co (8 * k + f k)).toInt64))), (0, .ref h), (3, .int (nI k))]) hx hb dX0_least_85 rfl hl (by decide) rfl (fun ls hl => ?_)
      refine lv_iinc (v := nI (k + 1)) (lv' := [(3, .int (nI (k + 1))), (1, .long (z + ((co (8 * k + f k)).toInt64))), (0, .ref h)]) hx hb dX0_least_86 hl (k := 2) rfl (nI_1 k) (by decide) rfl (fun ls hl => ?_)
      refine lv_goto (tgt := 58) hx hb dX0_least_89 (by decide) ?_
      exact ih (k + 1) _ H locs ls (by omega) (pd_sum1 (by omega) hz) hP hD hS (lv_sub hl [2, 1, 0] rfl)
end LEAST
set_option maxHeartbeats 4000000 in
set_option maxRecDepth 100000 in
theorem met_least (l : Launch) (dC : Nat → ClassId) (dI : Nat → Nat → Nat) (h : Nat) (ad : Nat → Nat) (cs : Nat → ClassId) (rk : Int32) (co : Nat → Int32) (u v : Nat → Int64) (ro cl : Nat → Int32) (wy : Nat → Int64) (be dn : Nat → Int32) (n : Nat) (hn : n ≤ 8) (h0 : 0 < n) (sz : Nat) : Met l yX0_least (ws_ yX0_least cX0_least 4 (some .long)) ({ frames := 11, cells := 0, slots := 0, locals := 261 } : Room) (va_Pc [.ref h] (pdPre dC dI (pdT cs) sz (pdW h ad cs (nI n) rk co u v ro cl wy be dn))) (va_Ql (fun (r : Int64) (g : (Nat → Int64) × (Nat → Int64) × (Nat → Int32) × (Nat → Int32) × (Nat → Int64) × (Nat → Int32) × (Nat → Int32)) => ∃ f, pd_lex (pd_C co) n f ∧ (∀ i, i < n → g.2.2.2.1 i = nI (f i)) ∧ r.toInt = pd_cost (pd_C co) n f) (fun g t => pdPost dC dI (va_A (pdW h ad cs (nI n) rk co u v ro cl wy be dn) sz) (pdW h ad cs (nI n) 1 co g.1 g.2.1 g.2.2.1 g.2.2.2.1 g.2.2.2.2.1 g.2.2.2.2.2.1 g.2.2.2.2.2.2) t) (va_A (pdW h ad cs (nI n) rk co u v ro cl wy be dn) sz)) 0 0 (va_A (pdW h ad cs (nI n) rk co u v ro cl wy be dn) sz) := by
  refine Met.ofW (cc := cX0_least) (maxL := 4) (ret := some .long) (by decide) rfl ?_
  intro p e s m args below meth c s₁ B hml hv
  obtain ⟨rfl, hsz, hP, hK, hD0⟩ := hv
  have hx := B.exec
  have hb := B.bytes
  have hr := B.returns
  have hts0 := atoms_spec (ws := ws_ yX0_least cX0_least 4 (some .long)) B.pre
  have hts : ∀ w ∈ lw_all, w.before _ s = true := fun w h => hts0 w (List.mem_cons_of_mem _ h)
  have hown : s.vm.findClass RX0 = some m.cls := findClass_of_methodNamed B.named
  have hlocks := B.notSynchronized
  have S : CallFix p m c cX0_least 4 s ([.ref h] : List Value).toArray lw_all RX0 := ⟨hx, hb, hml, hown, hts⟩
  subst hsz
  have hD := hD0.self (sz := s.heap.size)
  generalize hAe : va_A (pdW h ad cs (nI n) rk co u v ro cl wy be dn) s.heap.size = A at hD ⊢
  have hA : ∀ q : Nat, s.heap.size ≤ q → A q := fun q h => by rw [← hAe]; exact Or.inr h
  have hS : va_S A s.heap s.heap [] := va_S.rf
  have hl := lv_entry ([.ref h]) (n := 4) (Nat.le_of_ble_eq_true rfl)
  rw [lg_entry_eq]
  generalize (lg_sl ([.ref h]) ++ List.replicate (4 - (lg_sl ([.ref h])).length) Slot.unset).toArray = ls at hl ⊢
  have hl : lv_has ls 4 [(0, .ref h)] := hl
  have hf : (0 : Nat) ≤ 0 ∧ (0 : Nat) ≤ 0 := ⟨Nat.le_refl _, Nat.le_refl _⟩
  have hR1 : 1 ≤ (11 : Nat) ∧ 30 ≤ (261 : Nat) := ⟨by omega, by omega⟩
  refine lv_aload_n hx hb dX0_least_0 rfl (lv_at hl 0 rfl) ?_
  refine pd_g_u S hK hP dX0_least_1 ?_
  refine lv_lconst (v := 0) hx hb dX0_least_4 (by decide) ?_
  refine pd_fill_u S hR1 hf hA hK hP hD hS hl.1 dX0_least_5 (fun u0 H locs hu0 hP hD hS => ?_)
  refine lv_aload_n hx hb dX0_least_8 rfl (lv_at hl 0 rfl) ?_
  refine pd_g_v S hK hP dX0_least_9 ?_
  refine lv_lconst (v := 0) hx hb dX0_least_12 (by decide) ?_
  refine pd_fill_v S hR1 hf hA hK hP hD hS hl.1 dX0_least_13 (fun v0 H locs hv0 hP hD hS => ?_)
  refine lv_aload_n hx hb dX0_least_16 rfl (lv_at hl 0 rfl) ?_
  refine pd_g_ro S hK hP dX0_least_17 ?_
  refine lv_iconst (v := -1) hx hb dX0_least_20 (by decide) ?_
  refine pd_fill_ro S hR1 hf hA hK hP hD hS hl.1 dX0_least_21 (fun ro0 H locs hro0 hP hD hS => ?_)
  refine lv_iconst (v := nI 0) hx hb dX0_least_24 (by decide) ?_
  refine lv_istore_n (lv' := [(1, .int (nI 0)), (0, .ref h)]) hx hb dX0_least_25 rfl hl (by decide) rfl (fun ls hl => ?_)
  refine least_places S hf hA hK ⟨Nat.le_refl _, Nat.le_refl _⟩ hn (fun u1 v1 ro1 wy1 be1 dn1 H locs ls hp hz hP hD hS hl => ?_) n 0 u0 v0 ro0 wy be dn H locs ls (by omega) (pl_P0 hn hu0 hv0 hro0) (fun w => by omega) hP hD hS (lv_sub hl [1, 0] rfl)
  refine lv_aload_n hx hb dX0_least_45 rfl (lv_at hl 0 rfl) ?_
  refine pd_cVv (wr := []) S (met_order l dC dI h ad cs rk co u1 v1 ro1 cl wy1 be1 dn1 n hn h0 hp (hz h0) H.size) (cwV 0 S.2.2.2.2 (lw_V q87 q89 qs3 q7 q90) rfl rfl rfl (by decide +kernel) ⟨by show 10 + 1 ≤ 11; omega, by show 8 + (5 + 11) + 237 ≤ 261; omega⟩) hf hA hK hP pd_nil (pd_an hD) hS (va_recv hK hP (ci := 0) (q0 := 0) rfl rfl) rfl hl.1 rfl (Nat.le_of_ble_eq_true rfl) dX0_least_46 (fun g H locs hw hP _ hD hS => ?_)
  obtain ⟨ro2, cl2, dn2⟩ := g
  have hP : va_P (dC, dI) vwCl (pdW h ad cs (nI n) rk co u1 v1 ro2 cl2 wy1 be1 dn2) H := hP
  have hD : va_D A (pdW h ad cs (nI n) rk co u1 v1 ro2 cl2 wy1 be1 dn2) := pd_na hD
  obtain ⟨f, hlex, hcl⟩ : ∃ f, pd_lex (pd_C co) n f ∧ ∀ r, r < n → cl2 r = nI (f r) := hw
  refine lv_aload_n hx hb dX0_least_49 rfl (lv_at hl 0 rfl) ?_
  refine lv_iconst (v := 1) hx hb dX0_least_50 (by decide) ?_
  refine pd_p_rk S hK hP hD hS rfl rfl dX0_least_51 (fun H locs hP hD hS => ?_)
  refine lv_lconst (v := 0) hx hb dX0_least_54 (by decide) ?_
  refine lv_lstore_n (lv' := [(1, .long 0), (0, .ref h)]) hx hb dX0_least_55 rfl hl (by decide) rfl (fun ls hl => ?_)
  refine lv_iconst (v := nI 0) hx hb dX0_least_56 (by decide) ?_
  refine lv_istore_n (lv' := [(3, .int (nI 0)), (1, .long 0), (0, .ref h)]) hx hb dX0_least_57 rfl hl (by decide) rfl (fun ls hl => ?_)
  refine least_sum S hf hA hK hn hlex.1.1 hcl (fun z H locs ls hz hP hD hS hl => ?_) n 0 0 H locs ls (by omega) rfl hP hD hS (lv_sub hl [2, 1, 0] rfl)
  refine lv_lload_n hx hb dX0_least_92 rfl (lv_at hl 0 rfl) ?_
  exact W.lret hx hb hr (fun t ht hW => ⟨⟨z, (u1, v1, ro2, cl2, wy1, be1, dn2), rfl, ⟨f, hlex, hcl, hz⟩, by rw [ht]; exact hP, hD⟩, hS.F ht⟩) hS.2.2 dX0_least_93
end
section
/-! size, cost, given, count of the reference -/
set_option maxRecDepth 100000
section MSIZE
variable {p : Program} {l : Launch} {e : Env} {R : Room} {s : State} {m : MethodId} {args : Array Value} {below : List Frame} {meth : Method} {c : Code} {H : Heap} {locs : List Loc} {cells slots : Nat} {Q : State → Prop}
variable {pc : Nat} {ls : Array Slot} {rest : List Value} {dC : Nat → ClassId} {dI : Nat → Nat → Nat} {A : Nat → Prop} {nL : Nat}
variable {h : Nat} {ad : Nat → Nat} {cs : Nat → ClassId} {nn mk : Int32} {co : Nat → Int32} {bs : Nat → Int64} {gv : Nat → Int32}
set_option maxHeartbeats 4000000 in
set_option maxRecDepth 100000 in
theorem msize_loop {k0 : Int32} (S : CallFix p m c cX1_size 3 s args lw_all RX1) (hK : va_K (dC, dI) vwCl (pmT cs) s)
    (kt : ∀ (g : Nat → Int32) (H : Heap) (locs : List Loc) (ls : Array Slot), (∀ i, i < 64 → g i = 0) → va_P (dC, dI) vwCl (pmW h ad cs nn mk g bs gv) H → va_D A (pmW h ad cs nn mk g bs gv) → va_S A s.heap H locs → lv_has ls 3 [(0, .ref h)] → W p l e R s m args below meth c H locs cells slots Q (F0 m 31 ls [])) :
    ∀ (j k : Nat) (g : Nat → Int32) (H : Heap) (locs : List Loc) (ls : Array Slot), k + j = 64 → (∀ i, i < k → g i = 0) → va_P (dC, dI) vwCl (pmW h ad cs nn mk g bs gv) H → va_D A (pmW h ad cs nn mk g bs gv) → va_S A s.heap H locs → lv_has ls 3 [(0, .ref h), (1, .int k0), (2, .int (nI k))] → W p l e R s m args below meth c H locs cells slots Q (F0 m 12 ls []) := by
  obtain ⟨hx, hb, hml, hown, hts⟩ := id S
  intro j
  induction j with
  | zero =>
    intro k g H locs ls hk hg hP hD hS hl
    refine lv_iload_n hx hb dX1_size_12 rfl (lv_at hl 2 rfl) ?_
    refine lv_bipush (v := nI 64) hx hb dX1_size_13 (by decide) ?_
    refine pn_ge (tgt := 31) hx hb (by omega) (by omega) dX1_size_15 (by decide) (fun q => ?_) (fun q => ?_)
    · exact kt g H locs ls (fun i hi => hg i (by omega)) hP hD hS (lv_sub hl [0] rfl)
    · omega
  | succ j ih =>
    intro k g H locs ls hk hg hP hD hS hl
    refine lv_iload_n hx hb dX1_size_12 rfl (lv_at hl 2 rfl) ?_
    refine lv_bipush (v := nI 64) hx hb dX1_size_13 (by decide) ?_
    refine pn_ge (tgt := 31) hx hb (by omega) (by omega) dX1_size_15 (by decide) (fun q => ?_) (fun q => ?_)
    · omega
    · refine lv_aload_n hx hb dX1_size_18 rfl (lv_at hl 0 rfl) ?_
      refine pm_g_co S hK hP dX1_size_19 ?_
      refine lv_iload_n hx hb dX1_size_22 rfl (lv_at hl 2 rfl) ?_
      refine lv_iconst (v := 0) hx hb dX1_size_23 (by decide) ?_
      refine pm_st_co S hK hP hD hS (by omega) dX1_size_24 (fun H locs hP hD hS => ?_)
      refine lv_iinc (v := nI (k + 1)) (lv' := [(2, .int (nI (k + 1))), (0, .ref h), (1, .int k0)]) hx hb dX1_size_25 hl (k := 2) rfl (nI_1 k) (by decide) rfl (fun ls hl => ?_)
      refine lv_goto (tgt := 12) hx hb dX1_size_28 (by decide) ?_
      refine ih (k + 1) _ H locs ls (by omega) (fun i hi => ?_) hP hD hS (lv_sub hl [1, 2, 0] rfl)
      by_cases e : i = k
      · subst e
        exact pk_us
      · rw [pk_un e]
        exact hg i (by omega)
end MSIZE
set_option maxHeartbeats 4000000 in
set_option maxRecDepth 100000 in
theorem met_msize (l : Launch) (dC : Nat → ClassId) (dI : Nat → Nat → Nat) (h : Nat) (ad : Nat → Nat) (cs : Nat → ClassId) (nn mk : Int32) (co : Nat → Int32) (bs : Nat → Int64) (gv : Nat → Int32) (k : Int32) (sz : Nat) : Met l yX1_size (ws_ yX1_size cX1_size 3 none) ({ frames := 0, cells := 0, slots := 0, locals := 0 } : Room) (va_Pc [.ref h, .int k] (pdPre dC dI (pmT cs) sz (pmW h ad cs nn mk co bs gv))) (va_Qv (fun (g : Nat → Int32) => ∀ j, j < 64 → g j = 0) (fun g t => pdPost dC dI (va_A (pmW h ad cs nn mk co bs gv) sz) (pmW h ad cs (nI (pd_ni k)) 0 g bs gv) t) (va_A (pmW h ad cs nn mk co bs gv) sz)) 0 0 (va_A (pmW h ad cs nn mk co bs gv) sz) := by
  refine Met.ofW (cc := cX1_size) (maxL := 3) (ret := none) (by decide) rfl ?_
  intro p e s m args below meth c s₁ B hml hv
  obtain ⟨rfl, hsz, hP, hK, hD0⟩ := hv
  have hx := B.exec
  have hb := B.bytes
  have hr := B.returns
  have hts0 := atoms_spec (ws := ws_ yX1_size cX1_size 3 none) B.pre
  have hts : ∀ w ∈ lw_all, w.before _ s = true := fun w h => hts0 w (List.mem_cons_of_mem _ h)
  have hown : s.vm.findClass RX1 = some m.cls := findClass_of_methodNamed B.named
  have hlocks := B.notSynchronized
  have S : CallFix p m c cX1_size 3 s ([.ref h, .int k] : List Value).toArray lw_all RX1 := ⟨hx, hb, hml, hown, hts⟩
  subst hsz
  have hD := hD0.self (sz := s.heap.size)
  generalize hAe : va_A (pmW h ad cs nn mk co bs gv) s.heap.size = A at hD ⊢
  have hA : ∀ q : Nat, s.heap.size ≤ q → A q := fun q h => by rw [← hAe]; exact Or.inr h
  have hS : va_S A s.heap s.heap [] := va_S.rf
  have hl := lv_entry ([.ref h, .int k]) (n := 3) (Nat.le_of_ble_eq_true rfl)
  rw [lg_entry_eq]
  generalize (lg_sl ([.ref h, .int k]) ++ List.replicate (3 - (lg_sl ([.ref h, .int k])).length) Slot.unset).toArray = ls at hl ⊢
  have hl : lv_has ls 3 [(0, .ref h), (1, .int k)] := hl
  refine lv_aload_n hx hb dX1_size_0 rfl (lv_at hl 0 rfl) ?_
  refine lv_iconst (v := nI 1) hx hb dX1_size_1 (by decide) ?_
  refine lv_iload_n hx hb dX1_size_2 rfl (lv_at hl 1 rfl) ?_
  refine lv_bipush (v := nI 7) hx hb dX1_size_3 (by decide) ?_
  refine lv_iand hx hb dX1_size_5 ?_
  refine lv_iadd hx hb dX1_size_6 ?_
  refine pr_eqi (y := nI (pd_ni k)) (pd_ni_e k) ?_
  refine pm_p_nn S hK hP hD hS rfl rfl dX1_size_7 (fun H locs hP hD hS => ?_)
  refine lv_iconst (v := nI 0) hx hb dX1_size_10 (by decide) ?_
  refine lv_istore_n (lv' := [(2, .int (nI 0)), (0, .ref h), (1, .int k)]) hx hb dX1_size_11 rfl hl (by decide) rfl (fun ls hl => ?_)
  refine msize_loop S hK (fun g H locs ls hg hP hD hS hl => ?_) 64 0 co H locs ls (by omega) (fun i hi => by omega) hP hD hS (lv_sub hl [1, 2, 0] rfl)
  refine lv_aload_n hx hb dX1_size_31 rfl (lv_at hl 0 rfl) ?_
  refine lv_iconst (v := 0) hx hb dX1_size_32 (by decide) ?_
  refine pm_p_mk S hK hP hD hS rfl rfl dX1_size_33 (fun H locs hP hD hS => ?_)
  exact W.vret hx hb hr (fun t ht hW => ⟨⟨g, rfl, hg, by rw [ht]; exact hP, hD⟩, hS.F ht⟩) hS.2.2 dX1_size_36
def pm_cs (n : Nat) (co : Nat → Int32) (k x1 x2 x3 x4 : Int32) : Nat → Int32 := upd (upd (upd (upd (co) (8 * pd_ri k n + pd_fi k + 0) x1) (8 * pd_ri k n + pd_fi k + 1) x2) (8 * pd_ri k n + pd_fi k + 2) x3) (8 * pd_ri k n + pd_fi k + 3) x4
set_option maxHeartbeats 4000000 in
set_option maxRecDepth 100000 in
theorem met_mcost (l : Launch) (dC : Nat → ClassId) (dI : Nat → Nat → Nat) (h : Nat) (ad : Nat → Nat) (cs : Nat → ClassId) (mk : Int32) (co : Nat → Int32) (bs : Nat → Int64) (gv : Nat → Int32) (n : Nat) (k x1 x2 x3 x4 : Int32) (h0 : 0 < n) (hn : n ≤ 8) (sz : Nat) : Met l yX1_cost (ws_ yX1_cost cX1_cost 8 none) ({ frames := 0, cells := 0, slots := 0, locals := 0 } : Room) (va_Pc [.ref h, .int k, .int x1, .int x2, .int x3, .int x4] (pdPre dC dI (pmT cs) sz (pmW h ad cs (nI n) mk co bs gv))) (va_Qv (fun (_ : Unit) => True) (fun _ t => pdPost dC dI (va_A (pmW h ad cs (nI n) mk co bs gv) sz) (pmW h ad cs (nI n) 0 (pm_cs n co k x1 x2 x3 x4) bs gv) t) (va_A (pmW h ad cs (nI n) mk co bs gv) sz)) 0 0 (va_A (pmW h ad cs (nI n) mk co bs gv) sz) := by
  refine Met.ofW (cc := cX1_cost) (maxL := 8) (ret := none) (by decide) rfl ?_
  intro p e s m args below meth c s₁ B hml hv
  obtain ⟨rfl, hsz, hP, hK, hD0⟩ := hv
  have hx := B.exec
  have hb := B.bytes
  have hr := B.returns
  have hts0 := atoms_spec (ws := ws_ yX1_cost cX1_cost 8 none) B.pre
  have hts : ∀ w ∈ lw_all, w.before _ s = true := fun w h => hts0 w (List.mem_cons_of_mem _ h)
  have hown : s.vm.findClass RX1 = some m.cls := findClass_of_methodNamed B.named
  have hlocks := B.notSynchronized
  have S : CallFix p m c cX1_cost 8 s ([.ref h, .int k, .int x1, .int x2, .int x3, .int x4] : List Value).toArray lw_all RX1 := ⟨hx, hb, hml, hown, hts⟩
  subst hsz
  have hD := hD0.self (sz := s.heap.size)
  generalize hAe : va_A (pmW h ad cs (nI n) mk co bs gv) s.heap.size = A at hD ⊢
  have hA : ∀ q : Nat, s.heap.size ≤ q → A q := fun q h => by rw [← hAe]; exact Or.inr h
  have hS : va_S A s.heap s.heap [] := va_S.rf
  have hl := lv_entry ([.ref h, .int k, .int x1, .int x2, .int x3, .int x4]) (n := 8) (Nat.le_of_ble_eq_true rfl)
  rw [lg_entry_eq]
  generalize (lg_sl ([.ref h, .int k, .int x1, .int x2, .int x3, .int x4]) ++ List.replicate (8 - (lg_sl ([.ref h, .int k, .int x1, .int x2, .int x3, .int x4])).length) Slot.unset).toArray = ls at hl ⊢
  have hl : lv_has ls 8 [(0, .ref h), (1, .int k), (2, .int x1), (3, .int x2), (4, .int x3), (5, .int x4)] := hl
  have hri := pd_ri_lt k h0
  have hfi := pd_fi_in k
  refine lv_iload_n hx hb dX1_cost_0 rfl (lv_at hl 1 rfl) ?_
  refine lv_iconst (v := nI 1) hx hb dX1_cost_1 (by decide) ?_
  refine lv_ishr hx hb dX1_cost_2 ?_
  refine lv_ldc (v := 1073741823) hx hb hown (hts _ q130) dX1_cost_3 ?_
  refine lv_iand hx hb dX1_cost_5 ?_
  refine lv_aload_n hx hb dX1_cost_6 rfl (lv_at hl 0 rfl) ?_
  refine pm_g_nn S hK hP dX1_cost_7 ?_
  refine lv_irem hx hb dX1_cost_10 (nI_ne0 h0 (by omega)) ?_
  refine pr_eqi (y := nI (pd_ri k n)) (pd_ri_e k h0 hn) ?_
  refine lv_istore (lv' := [(6, .int (nI (pd_ri k n))), (0, .ref h), (1, .int k), (2, .int x1), (3, .int x2), (4, .int x3), (5, .int x4)]) hx hb dX1_cost_11 hl (by decide) rfl (fun ls hl => ?_)
  refine lv_iconst (v := nI 0) hx hb dX1_cost_13 (by decide) ?_
  refine lv_istore (lv' := [(7, .int (nI 0)), (6, .int (nI (pd_ri k n))), (0, .ref h), (1, .int k), (2, .int x1), (3, .int x2), (4, .int x3), (5, .int x4)]) hx hb dX1_cost_14 hl (by decide) rfl (fun ls hl => ?_)
  refine lv_iload hx hb dX1_cost_16 (lv_at hl 0 rfl) ?_
  refine lv_iconst (v := nI 4) hx hb dX1_cost_18 (by decide) ?_
  refine pn_ge (tgt := 79) hx hb (by omega) (by omega) dX1_cost_19 (by decide) (fun q => ?_) (fun q => ?_)
  · omega
  · refine lv_aload_n hx hb dX1_cost_22 rfl (lv_at hl 2 rfl) ?_
    refine pm_g_co S hK hP dX1_cost_23 ?_
    refine lv_bipush (v := nI 8) hx hb dX1_cost_26 (by decide) ?_
    refine lv_iload hx hb dX1_cost_28 (lv_at hl 1 rfl) ?_
    refine lv_imul hx hb dX1_cost_30 ?_
    refine lv_iconst (v := nI 4) hx hb dX1_cost_31 (by decide) ?_
    refine lv_iload_n hx hb dX1_cost_32 rfl (lv_at hl 3 rfl) ?_
    refine lv_iconst (v := nI 1) hx hb dX1_cost_33 (by decide) ?_
    refine lv_iand hx hb dX1_cost_34 ?_
    refine lv_imul hx hb dX1_cost_35 ?_
    refine pr_eqi (y := nI (pd_fi k)) (pd_fi_e k) ?_
    refine lv_iadd hx hb dX1_cost_36 ?_
    refine lv_iload hx hb dX1_cost_37 (lv_at hl 0 rfl) ?_
    refine lv_iadd hx hb dX1_cost_39 ?_
    refine pr_eqi (y := nI (8 * pd_ri k n + pd_fi k + 0)) (by rw [pk_mul, nI_add, nI_add]) ?_
    refine lv_iload hx hb dX1_cost_40 (lv_at hl 0 rfl) ?_
    refine lv_if_ne (tgt := 49) hx hb dX1_cost_42 (by decide) (fun q2 => ?_) (fun q2 => ?_)
    · exact absurd q2 (by decide)
    · refine lv_iload_n hx hb dX1_cost_45 rfl (lv_at hl 4 rfl) ?_
      refine lv_goto (tgt := 72) hx hb dX1_cost_46 (by decide) ?_
      refine pm_st_co S hK hP hD hS (by omega) dX1_cost_72 (fun H locs hP hD hS => ?_)
      refine lv_iinc (v := nI 1) (lv' := [(7, .int (nI 1)), (6, .int (nI (pd_ri k n))), (0, .ref h), (1, .int k), (2, .int x1), (3, .int x2), (4, .int x3), (5, .int x4)]) hx hb dX1_cost_73 hl (k := 0) rfl (by decide) (by decide) rfl (fun ls hl => ?_)
      refine lv_goto (tgt := 16) hx hb dX1_cost_76 (by decide) ?_
      refine lv_iload hx hb dX1_cost_16 (lv_at hl 0 rfl) ?_
      refine lv_iconst (v := nI 4) hx hb dX1_cost_18 (by decide) ?_
      refine pn_ge (tgt := 79) hx hb (by omega) (by omega) dX1_cost_19 (by decide) (fun q => ?_) (fun q => ?_)
      · omega
      · refine lv_aload_n hx hb dX1_cost_22 rfl (lv_at hl 2 rfl) ?_
        refine pm_g_co S hK hP dX1_cost_23 ?_
        refine lv_bipush (v := nI 8) hx hb dX1_cost_26 (by decide) ?_
        refine lv_iload hx hb dX1_cost_28 (lv_at hl 1 rfl) ?_
        refine lv_imul hx hb dX1_cost_30 ?_
        refine lv_iconst (v := nI 4) hx hb dX1_cost_31 (by decide) ?_
        refine lv_iload_n hx hb dX1_cost_32 rfl (lv_at hl 3 rfl) ?_
        refine lv_iconst (v := nI 1) hx hb dX1_cost_33 (by decide) ?_
        refine lv_iand hx hb dX1_cost_34 ?_
        refine lv_imul hx hb dX1_cost_35 ?_
        refine pr_eqi (y := nI (pd_fi k)) (pd_fi_e k) ?_
        refine lv_iadd hx hb dX1_cost_36 ?_
        refine lv_iload hx hb dX1_cost_37 (lv_at hl 0 rfl) ?_
        refine lv_iadd hx hb dX1_cost_39 ?_
        refine pr_eqi (y := nI (8 * pd_ri k n + pd_fi k + 1)) (by rw [pk_mul, nI_add, nI_add]) ?_
        refine lv_iload hx hb dX1_cost_40 (lv_at hl 0 rfl) ?_
        refine lv_if_ne (tgt := 49) hx hb dX1_cost_42 (by decide) (fun q2 => ?_) (fun q2 => ?_)
        · refine lv_iload hx hb dX1_cost_49 (lv_at hl 0 rfl) ?_
          refine lv_iconst (v := nI 1) hx hb dX1_cost_51 (by decide) ?_
          refine pn_ne (tgt := 59) hx hb (by omega) (by omega) dX1_cost_52 (by decide) (fun q2 => ?_) (fun q2 => ?_)
          · omega
          · refine lv_iload_n hx hb dX1_cost_55 rfl (lv_at hl 5 rfl) ?_
            refine lv_goto (tgt := 72) hx hb dX1_cost_56 (by decide) ?_
            refine pm_st_co S hK hP hD hS (by omega) dX1_cost_72 (fun H locs hP hD hS => ?_)
            refine lv_iinc (v := nI 2) (lv' := [(7, .int (nI 2)), (6, .int (nI (pd_ri k n))), (0, .ref h), (1, .int k), (2, .int x1), (3, .int x2), (4, .int x3), (5, .int x4)]) hx hb dX1_cost_73 hl (k := 0) rfl (by decide) (by decide) rfl (fun ls hl => ?_)
            refine lv_goto (tgt := 16) hx hb dX1_cost_76 (by decide) ?_
            refine lv_iload hx hb dX1_cost_16 (lv_at hl 0 rfl) ?_
            refine lv_iconst (v := nI 4) hx hb dX1_cost_18 (by decide) ?_
            refine pn_ge (tgt := 79) hx hb (by omega) (by omega) dX1_cost_19 (by decide) (fun q => ?_) (fun q => ?_)
            · omega
            · refine lv_aload_n hx hb dX1_cost_22 rfl (lv_at hl 2 rfl) ?_
              refine pm_g_co S hK hP dX1_cost_23 ?_
              refine lv_bipush (v := nI 8) hx hb dX1_cost_26 (by decide) ?_
              refine lv_iload hx hb dX1_cost_28 (lv_at hl 1 rfl) ?_
              refine lv_imul hx hb dX1_cost_30 ?_
              refine lv_iconst (v := nI 4) hx hb dX1_cost_31 (by decide) ?_
              refine lv_iload_n hx hb dX1_cost_32 rfl (lv_at hl 3 rfl) ?_
              refine lv_iconst (v := nI 1) hx hb dX1_cost_33 (by decide) ?_
              refine lv_iand hx hb dX1_cost_34 ?_
              refine lv_imul hx hb dX1_cost_35 ?_
              refine pr_eqi (y := nI (pd_fi k)) (pd_fi_e k) ?_
              refine lv_iadd hx hb dX1_cost_36 ?_
              refine lv_iload hx hb dX1_cost_37 (lv_at hl 0 rfl) ?_
              refine lv_iadd hx hb dX1_cost_39 ?_
              refine pr_eqi (y := nI (8 * pd_ri k n + pd_fi k + 2)) (by rw [pk_mul, nI_add, nI_add]) ?_
              refine lv_iload hx hb dX1_cost_40 (lv_at hl 0 rfl) ?_
              refine lv_if_ne (tgt := 49) hx hb dX1_cost_42 (by decide) (fun q2 => ?_) (fun q2 => ?_)
              · refine lv_iload hx hb dX1_cost_49 (lv_at hl 0 rfl) ?_
                refine lv_iconst (v := nI 1) hx hb dX1_cost_51 (by decide) ?_
                refine pn_ne (tgt := 59) hx hb (by omega) (by omega) dX1_cost_52 (by decide) (fun q2 => ?_) (fun q2 => ?_)
                · refine lv_iload hx hb dX1_cost_59 (lv_at hl 0 rfl) ?_
                  refine lv_iconst (v := nI 2) hx hb dX1_cost_61 (by decide) ?_
                  refine pn_ne (tgt := 70) hx hb (by omega) (by omega) dX1_cost_62 (by decide) (fun q2 => ?_) (fun q2 => ?_)
                  · omega
                  · refine lv_iload hx hb dX1_cost_65 (lv_at hl 6 rfl) ?_
                    refine lv_goto (tgt := 72) hx hb dX1_cost_67 (by decide) ?_
                    refine pm_st_co S hK hP hD hS (by omega) dX1_cost_72 (fun H locs hP hD hS => ?_)
                    refine lv_iinc (v := nI 3) (lv' := [(7, .int (nI 3)), (6, .int (nI (pd_ri k n))), (0, .ref h), (1, .int k), (2, .int x1), (3, .int x2), (4, .int x3), (5, .int x4)]) hx hb dX1_cost_73 hl (k := 0) rfl (by decide) (by decide) rfl (fun ls hl => ?_)
                    refine lv_goto (tgt := 16) hx hb dX1_cost_76 (by decide) ?_
                    refine lv_iload hx hb dX1_cost_16 (lv_at hl 0 rfl) ?_
                    refine lv_iconst (v := nI 4) hx hb dX1_cost_18 (by decide) ?_
                    refine pn_ge (tgt := 79) hx hb (by omega) (by omega) dX1_cost_19 (by decide) (fun q => ?_) (fun q => ?_)
                    · omega
                    · refine lv_aload_n hx hb dX1_cost_22 rfl (lv_at hl 2 rfl) ?_
                      refine pm_g_co S hK hP dX1_cost_23 ?_
                      refine lv_bipush (v := nI 8) hx hb dX1_cost_26 (by decide) ?_
                      refine lv_iload hx hb dX1_cost_28 (lv_at hl 1 rfl) ?_
                      refine lv_imul hx hb dX1_cost_30 ?_
                      refine lv_iconst (v := nI 4) hx hb dX1_cost_31 (by decide) ?_
                      refine lv_iload_n hx hb dX1_cost_32 rfl (lv_at hl 3 rfl) ?_
                      refine lv_iconst (v := nI 1) hx hb dX1_cost_33 (by decide) ?_
                      refine lv_iand hx hb dX1_cost_34 ?_
                      refine lv_imul hx hb dX1_cost_35 ?_
                      refine pr_eqi (y := nI (pd_fi k)) (pd_fi_e k) ?_
                      refine lv_iadd hx hb dX1_cost_36 ?_
                      refine lv_iload hx hb dX1_cost_37 (lv_at hl 0 rfl) ?_
                      refine lv_iadd hx hb dX1_cost_39 ?_
                      refine pr_eqi (y := nI (8 * pd_ri k n + pd_fi k + 3)) (by rw [pk_mul, nI_add, nI_add]) ?_
                      refine lv_iload hx hb dX1_cost_40 (lv_at hl 0 rfl) ?_
                      refine lv_if_ne (tgt := 49) hx hb dX1_cost_42 (by decide) (fun q2 => ?_) (fun q2 => ?_)
                      · refine lv_iload hx hb dX1_cost_49 (lv_at hl 0 rfl) ?_
                        refine lv_iconst (v := nI 1) hx hb dX1_cost_51 (by decide) ?_
                        refine pn_ne (tgt := 59) hx hb (by omega) (by omega) dX1_cost_52 (by decide) (fun q2 => ?_) (fun q2 => ?_)
                        · refine lv_iload hx hb dX1_cost_59 (lv_at hl 0 rfl) ?_
                          refine lv_iconst (v := nI 2) hx hb dX1_cost_61 (by decide) ?_
                          refine pn_ne (tgt := 70) hx hb (by omega) (by omega) dX1_cost_62 (by decide) (fun q2 => ?_) (fun q2 => ?_)
                          · refine lv_iload hx hb dX1_cost_70 (lv_at hl 7 rfl) ?_
                            refine pm_st_co S hK hP hD hS (by omega) dX1_cost_72 (fun H locs hP hD hS => ?_)
                            refine lv_iinc (v := nI 4) (lv' := [(7, .int (nI 4)), (6, .int (nI (pd_ri k n))), (0, .ref h), (1, .int k), (2, .int x1), (3, .int x2), (4, .int x3), (5, .int x4)]) hx hb dX1_cost_73 hl (k := 0) rfl (by decide) (by decide) rfl (fun ls hl => ?_)
                            refine lv_goto (tgt := 16) hx hb dX1_cost_76 (by decide) ?_
                            refine lv_iload hx hb dX1_cost_16 (lv_at hl 0 rfl) ?_
                            refine lv_iconst (v := nI 4) hx hb dX1_cost_18 (by decide) ?_
                            refine pn_ge (tgt := 79) hx hb (by omega) (by omega) dX1_cost_19 (by decide) (fun q => ?_) (fun q => ?_)
                            · refine lv_aload_n hx hb dX1_cost_79 rfl (lv_at hl 2 rfl) ?_
                              refine lv_iconst (v := 0) hx hb dX1_cost_80 (by decide) ?_
                              refine pm_p_mk S hK hP hD hS rfl rfl dX1_cost_81 (fun H locs hP hD hS => ?_)
                              exact W.vret hx hb hr (fun t ht hW => ⟨⟨(), rfl, trivial, by rw [ht]; exact hP, hD⟩, hS.F ht⟩) hS.2.2 dX1_cost_84
                            · omega
                          · omega
                        · omega
                      · exact absurd q2 (by decide)
                · omega
              · exact absurd q2 (by decide)
        · exact absurd q2 (by decide)
set_option maxHeartbeats 4000000 in
set_option maxRecDepth 100000 in
theorem met_mgiven (l : Launch) (dC : Nat → ClassId) (dI : Nat → Nat → Nat) (h : Nat) (ad : Nat → Nat) (cs : Nat → ClassId) (mk : Int32) (co : Nat → Int32) (bs : Nat → Int64) (gv : Nat → Int32) (n : Nat) (k : Int32) (h0 : 0 < n) (hn : n ≤ 8) (sz : Nat) : Met l yX1_given (ws_ yX1_given cX1_given 2 (some .int)) ({ frames := 0, cells := 0, slots := 0, locals := 0 } : Room) (va_Pc [.ref h, .int k] (pdPre dC dI (pmT cs) sz (pmW h ad cs (nI n) mk co bs gv))) (va_Qi (fun (r : Int32) (_ : Unit) => r = if mk = 0 then -1 else gv (pd_gi k n)) (fun _ t => pdPost dC dI (va_A (pmW h ad cs (nI n) mk co bs gv) sz) (pmW h ad cs (nI n) mk co bs gv) t) (va_A (pmW h ad cs (nI n) mk co bs gv) sz)) 0 0 (va_A (pmW h ad cs (nI n) mk co bs gv) sz) := by
  refine Met.ofW (cc := cX1_given) (maxL := 2) (ret := some .int) (by decide) rfl ?_
  intro p e s m args below meth c s₁ B hml hv
  obtain ⟨rfl, hsz, hP, hK, hD0⟩ := hv
  have hx := B.exec
  have hb := B.bytes
  have hr := B.returns
  have hts0 := atoms_spec (ws := ws_ yX1_given cX1_given 2 (some .int)) B.pre
  have hts : ∀ w ∈ lw_all, w.before _ s = true := fun w h => hts0 w (List.mem_cons_of_mem _ h)
  have hown : s.vm.findClass RX1 = some m.cls := findClass_of_methodNamed B.named
  have hlocks := B.notSynchronized
  have S : CallFix p m c cX1_given 2 s ([.ref h, .int k] : List Value).toArray lw_all RX1 := ⟨hx, hb, hml, hown, hts⟩
  subst hsz
  have hD := hD0.self (sz := s.heap.size)
  generalize hAe : va_A (pmW h ad cs (nI n) mk co bs gv) s.heap.size = A at hD ⊢
  have hA : ∀ q : Nat, s.heap.size ≤ q → A q := fun q h => by rw [← hAe]; exact Or.inr h
  have hS : va_S A s.heap s.heap [] := va_S.rf
  have hl := lv_entry ([.ref h, .int k]) (n := 2) (Nat.le_of_ble_eq_true rfl)
  rw [lg_entry_eq]
  generalize (lg_sl ([.ref h, .int k]) ++ List.replicate (2 - (lg_sl ([.ref h, .int k])).length) Slot.unset).toArray = ls at hl ⊢
  have hl : lv_has ls 2 [(0, .ref h), (1, .int k)] := hl
  have hgi := pd_gi_lt k h0
  refine lv_aload_n hx hb dX1_given_0 rfl (lv_at hl 0 rfl) ?_
  refine pm_g_mk S hK hP dX1_given_1 ?_
  refine lv_if_ne (tgt := 9) hx hb dX1_given_4 (by decide) (fun q => ?_) (fun q => ?_)
  · refine lv_aload_n hx hb dX1_given_9 rfl (lv_at hl 0 rfl) ?_
    refine pm_g_gv S hK hP dX1_given_10 ?_
    refine lv_iload_n hx hb dX1_given_13 rfl (lv_at hl 1 rfl) ?_
    refine lv_ldc (v := 2147483647) hx hb hown (hts _ q146) dX1_given_14 ?_
    refine lv_iand hx hb dX1_given_16 ?_
    refine lv_aload_n hx hb dX1_given_17 rfl (lv_at hl 0 rfl) ?_
    refine pm_g_nn S hK hP dX1_given_18 ?_
    refine lv_irem hx hb dX1_given_21 (nI_ne0 h0 (by omega)) ?_
    refine pr_eqi (y := nI (pd_gi k n)) (pd_gi_e k h0 hn) ?_
    refine pm_ld_gv S hK hP (by omega) dX1_given_22 ?_
    exact W.iret hx hb hr (fun t ht hW => ⟨⟨_, (), rfl, (if_neg q).symm, by rw [ht]; exact hP, hD⟩, hS.F ht⟩) hS.2.2 dX1_given_23
  · refine lv_iconst (v := -1) hx hb dX1_given_7 (by decide) ?_
    exact W.iret hx hb hr (fun t ht hW => ⟨⟨_, (), rfl, (if_pos q).symm, by rw [ht]; exact hP, hD⟩, hS.F ht⟩) hS.2.2 dX1_given_8
section MCOUNT
variable {p : Program} {l : Launch} {e : Env} {R : Room} {s : State} {m : MethodId} {args : Array Value} {below : List Frame} {meth : Method} {c : Code} {H : Heap} {locs : List Loc} {cells slots : Nat} {Q : State → Prop}
variable {pc : Nat} {ls : Array Slot} {rest : List Value} {dC : Nat → ClassId} {dI : Nat → Nat → Nat} {A : Nat → Prop} {nL : Nat}
set_option maxHeartbeats 4000000 in
set_option maxRecDepth 100000 in
theorem mcount_loop {x : Int32} {X : Nat} (S : CallFix p m c cX1_count 3 s args lw_all RX1)
    (kt : ∀ (ls : Array Slot), lv_has ls 3 [(1, .int (nI (pm_cnt X)))] → W p l e R s m args below meth c H locs cells slots Q (F0 m 21 ls [])) :
    ∀ (j a b : Nat) (ls : Array Slot), b < j → b < 256 → a + pm_cnt b = pm_cnt X → lv_has ls 3 [(0, .int x), (1, .int (nI a)), (2, .int (nI b))] → W p l e R s m args below meth c H locs cells slots Q (F0 m 4 ls []) := by
  obtain ⟨hx, hb, hml, hown, hts⟩ := id S
  intro j
  induction j with
  | zero => intro a b ls h; omega
  | succ j ih =>
    intro a b ls hj hb8 hab hl
    refine lv_iload_n hx hb dX1_count_4 rfl (lv_at hl 2 rfl) ?_
    refine lv_if_eq (tgt := 21) hx hb dX1_count_5 (by decide) (fun q => ?_) (fun q => ?_)
    · have e : b = 0 := (nI_eq (a := b) (b := 0) (by omega) (by omega)).mp (q.trans nI_0.symm)
      subst e
      have e2 : a = pm_cnt X := hab
      subst e2
      exact kt ls (lv_sub hl [1] rfl)
    · have hb0 : b ≠ 0 := fun e => by
        subst e
        exact q nI_0
      refine lv_iload_n hx hb dX1_count_8 rfl (lv_at hl 1 rfl) ?_
      refine lv_iload_n hx hb dX1_count_9 rfl (lv_at hl 2 rfl) ?_
      refine lv_iconst (v := nI 1) hx hb dX1_count_10 (by decide) ?_
      refine lv_iand hx hb dX1_count_11 ?_
      refine pr_eqi (y := nI (b % 2)) (pm_i_m2 b hb8) ?_
      refine lv_iadd hx hb dX1_count_12 ?_
      refine pr_eqi (y := nI (a + b % 2)) (nI_add _ _) ?_
      refine lv_istore_n (lv' := [(1, .int (nI (a + b % 2))), (0, .int x), (2, .int (nI b))]) hx hb dX1_count_13 rfl hl (by decide) rfl (fun ls hl => ?_)
      refine lv_iload_n hx hb dX1_count_14 rfl (lv_at hl 2 rfl) ?_
      refine lv_iconst (v := nI 1) hx hb dX1_count_15 (by decide) ?_
      refine lv_iushr (v := nI (b / 2)) hx hb dX1_count_16 (pm_i_d2 b hb8) ?_
      refine lv_istore_n (lv' := [(2, .int (nI (b / 2))), (1, .int (nI (a + b % 2))), (0, .int x)]) hx hb dX1_count_17 rfl hl (by decide) rfl (fun ls hl => ?_)
      refine lv_goto (tgt := 4) hx hb dX1_count_18 (by decide) ?_
      exact ih (a + b % 2) (b / 2) ls (by omega) (by omega) (by have := pm_cnt_half b hb8; omega) (lv_sub hl [2, 1, 0] rfl)
end MCOUNT
set_option maxHeartbeats 4000000 in
set_option maxRecDepth 100000 in
theorem met_mcount (l : Launch) (dC : Nat → ClassId) (dI : Nat → Nat → Nat) (X : Nat) (hX : X < 256) (sz : Nat) : Met l yX1_count (ws_ yX1_count cX1_count 3 (some .int)) ({ frames := 0, cells := 0, slots := 0, locals := 0 } : Room) (va_Pc [.int (nI X)] (pdPre dC dI [] sz ([]))) (va_Qi (fun (r : Int32) (_ : Unit) => r = nI (pm_cnt X)) (fun _ t => pdPost dC dI (va_A [] sz) [] t) (va_A ([]) sz)) 0 0 (va_A ([]) sz) := by
  refine Met.ofW (cc := cX1_count) (maxL := 3) (ret := some .int) (by decide) rfl ?_
  intro p e s m args below meth c s₁ B hml hv
  obtain ⟨rfl, hsz, hP, hK, hD0⟩ := hv
  have hx := B.exec
  have hb := B.bytes
  have hr := B.returns
  have hts0 := atoms_spec (ws := ws_ yX1_count cX1_count 3 (some .int)) B.pre
  have hts : ∀ w ∈ lw_all, w.before _ s = true := fun w h => hts0 w (List.mem_cons_of_mem _ h)
  have hown : s.vm.findClass RX1 = some m.cls := findClass_of_methodNamed B.named
  have hlocks := B.notSynchronized
  have S : CallFix p m c cX1_count 3 s ([.int (nI X)] : List Value).toArray lw_all RX1 := ⟨hx, hb, hml, hown, hts⟩
  subst hsz
  have hD := hD0.self (sz := s.heap.size)
  generalize hAe : va_A ([]) s.heap.size = A at hD ⊢
  have hA : ∀ q : Nat, s.heap.size ≤ q → A q := fun q h => by rw [← hAe]; exact Or.inr h
  have hS : va_S A s.heap s.heap [] := va_S.rf
  have hl := lv_entry ([.int (nI X)]) (n := 3) (Nat.le_of_ble_eq_true rfl)
  rw [lg_entry_eq]
  generalize (lg_sl ([.int (nI X)]) ++ List.replicate (3 - (lg_sl ([.int (nI X)])).length) Slot.unset).toArray = ls at hl ⊢
  have hl : lv_has ls 3 [(0, .int (nI X))] := hl
  refine lv_iconst (v := nI 0) hx hb dX1_count_0 (by decide) ?_
  refine lv_istore_n (lv' := [(1, .int (nI 0)), (0, .int (nI X))]) hx hb dX1_count_1 rfl hl (by decide) rfl (fun ls hl => ?_)
  refine lv_iload_n hx hb dX1_count_2 rfl (lv_at hl 1 rfl) ?_
  refine lv_istore_n (lv' := [(2, .int (nI X)), (1, .int (nI 0)), (0, .int (nI X))]) hx hb dX1_count_3 rfl hl (by decide) rfl (fun ls hl => ?_)
  refine mcount_loop (X := X) S (fun ls hl => ?_) (X + 1) 0 X ls (by omega) hX (by omega) (lv_sub hl [2, 1, 0] rfl)
  refine lv_iload_n hx hb dX1_count_21 rfl (lv_at hl 0 rfl) ?_
  exact W.iret hx hb hr (fun t ht hW => ⟨⟨_, (), rfl, rfl, by rw [ht]; exact hP, hD⟩, hS.F ht⟩) hS.2.2 dX1_count_22
section PCS
variable {p : Program} {l : Launch} {e : Env} {R : Room} {s : State} {m : MethodId} {args : Array Value} {below : List Frame} {meth : Method} {c : Code} {H : Heap} {locs : List Loc} {cells slots : Nat} {Q : State → Prop}
variable {pc : Nat} {ls : Array Slot} {rest : List Value} {dC : Nat → ClassId} {dI : Nat → Nat → Nat} {A : Nat → Prop} {nL : Nat}
variable {cc : ByteArray} {T : Type} {w wr : va_W} {w' : T → va_W} {tys : List (ClassId × FieldType)} {y : MethodName} {wsy : List Cond} {rm : Room} {bytes : ByteArray} {maxL n index : Nat} {ret : Option FieldType} {own : String} {Ts : List Cond} {As st0 : List Value}
theorem pd_cSi {post : Int32 → T → Prop} (S : CallFix p m c cc nL s args Ts own) (hM : Met l y wsy rm (va_Pc As (pdPre dC dI tys H.size w)) (va_Qi post (fun u t => pdPost dC dI (va_A w H.size) (w' u) t) (va_A w H.size)) 0 0 (va_A w H.size)) (cw : CallB R s args own index y bytes maxL ret wsy rm 0 0 n ∧ (Cond.static y).before args s = true) (hf : cells ≤ R.cells ∧ slots ≤ R.slots) (hA : ∀ q : Nat, s.heap.size ≤ q → A q) (hK : va_K (dC, dI) vwCl tys s) (hP : va_P (dC, dI) vwCl w H) (hPr : va_P (dC, dI) vwCl wr H) (hD : va_D A (w ++ wr)) (hS : va_S A s.heap H locs) (hn : As.length = n) (hsz : ls.size = nL) (hst : st0 = As.reverse ++ rest) (hr : (rest.map fun v => v.category).sum ≤ 8) (hdg : decode cc pc = .ok (.invokestatic index, 3))
    (kk : ∀ (r : Int32) (u : T) (H1 : Heap) (locs1 : List Loc), post r u → va_P (dC, dI) vwCl (w' u) H1 → va_P (dC, dI) vwCl wr H1 → va_D A (w' u ++ wr) → va_S A s.heap H1 locs1 → W p l e R s m args below meth c H1 locs1 cells slots Q (F0 m (pc + 3) ls (.int r :: rest))) : W p l e R s m args below meth c H locs cells slots Q (F0 m pc ls st0) := by
  have hDc := pd_left hD
  have hFc : ∀ q, va_A w H.size q → A q := by
    rintro q (⟨k, e2, hk⟩ | hq)
    · exact hDc.2 k _ hk
    · exact hA q (Nat.le_trans hS.1 hq)
  refine va_calli (va_runS (As := As) (rest := rest) S hM cw ⟨pd_blind, fun U hU hW => ⟨rfl, by rw [hU], by rw [hU]; exact hP, va_K.moved hW.alike hK, hDc.weaken (fun _ _ _ _ => trivial)⟩⟩ rfl hn hsz hst (lv_room hr) hdg hf) hS (fun q _ h => hFc q h) hFc (fun r u t H1 locs1 ht hvm hw1 hB hz1 hk1 hS1 => ?_)
  obtain ⟨hP1, hD1⟩ := hB
  rw [ht] at hP1
  obtain ⟨hPr1, hD2⟩ := pd_frame hPr hD hFc hk1 hD1
  exact kk r u H1 locs1 hw1 hP1 hPr1 hD2 hS1
end PCS
end
section
/-! reckon and least of the reference -/
set_option maxRecDepth 100000
theorem pm_b01 {X c : Nat} : (nI (pm_b X c) = 0 → pm_b X c ≠ 1) ∧ (¬ nI (pm_b X c) = 0 → pm_b X c = 1) := by
  have h : pm_b X c < 2 := Nat.mod_lt _ (by decide)
  refine ⟨fun q w => ?_, fun q => ?_⟩
  · rw [w] at q
    exact absurd q (by decide)
  · have h1 : pm_b X c ≠ 0 := fun w => q (by rw [w]; decide)
    omega
/-- of the columns ahead of k that are in the set: the least so far -/
def pm_I (X : Nat) (val : Nat → Int) (z : Int64) (k : Nat) (x : Int32) : Prop := (x = 0 ∧ ∀ c, c < k → pm_b X c ≠ 1) ∨ (x = 1 ∧ (∃ c, c < k ∧ pm_b X c = 1 ∧ z.toInt = val c) ∧ ∀ c, c < k → pm_b X c = 1 → z.toInt ≤ val c)
theorem pm_I0 {X : Nat} {val : Nat → Int} {z : Int64} : pm_I X val z 0 0 := Or.inl ⟨rfl, fun c hc => by omega⟩
theorem pm_I_skip {X k : Nat} {val : Nat → Int} {z : Int64} {x : Int32} (h : pm_I X val z k x) (hk : pm_b X k ≠ 1) : pm_I X val z (k + 1) x := by
  rcases h with ⟨h1, h2⟩ | ⟨h1, ⟨c, c1, c2, c3⟩, h3⟩
  · refine Or.inl ⟨h1, fun c hc => ?_⟩
    by_cases e : c = k
    · subst e
      exact hk
    · exact h2 c (by omega)
  · refine Or.inr ⟨h1, ⟨c, by omega, c2, c3⟩, fun c hc hb => ?_⟩
    have e : c ≠ k := fun e => by
      subst e
      exact hk hb
    exact h3 c (by omega) hb
theorem pm_I_take {X k : Nat} {val : Nat → Int} {z z2 : Int64} {x : Int32} (h : pm_I X val z k x) (hk : pm_b X k = 1) (hz : z2.toInt = val k) (hx : x = 0 ∨ z2.toInt < z.toInt) : pm_I X val z2 (k + 1) 1 := by
  refine Or.inr ⟨rfl, ⟨k, by omega, hk, hz⟩, fun c hc hb => ?_⟩
  by_cases e : c = k
  · subst e
    omega
  · rcases h with ⟨h1, h2⟩ | ⟨h1, -, h3⟩
    · exact absurd hb (h2 c (by omega))
    · rcases hx with q | q
      · rw [h1] at q
        exact absurd q (by decide)
      · have := h3 c (by omega) hb
        omega
theorem pm_I_keep {X k : Nat} {val : Nat → Int} {z : Int64} {x : Int32} (h : pm_I X val z k x) (hx : ¬ x = 0) (hz : z.toInt ≤ val k) : pm_I X val z (k + 1) x := by
  rcases h with ⟨h1, h2⟩ | ⟨h1, ⟨c, c1, c2, c3⟩, h3⟩
  · exact absurd h1 hx
  · refine Or.inr ⟨h1, ⟨c, by omega, c2, c3⟩, fun c hc hb => ?_⟩
    by_cases e : c = k
    · subst e
      exact hz
    · exact h3 c (by omega) hb
/-- of the columns from k on that answer: the first -/
def pm_pk (n X : Nat) (val : Nat → Int) (b : Int) (k : Nat) (x : Int32) : Prop := (x = -1 ∧ ∀ c, k ≤ c → c < n → pm_b X c = 1 → val c ≠ b) ∨ ∃ i, k ≤ i ∧ i < n ∧ x = nI i ∧ pm_b X i = 1 ∧ val i = b ∧ ∀ c, k ≤ c → c < i → pm_b X c = 1 → val c ≠ b
theorem pm_pk_no {n X k : Nat} {val : Nat → Int} {b : Int} {x : Int32} (h : pm_pk n X val b (k + 1) x) (hk : pm_b X k = 1 → val k ≠ b) : pm_pk n X val b k x := by
  rcases h with ⟨h1, h2⟩ | ⟨i, i1, i2, i3, i4, i5, i6⟩
  · refine Or.inl ⟨h1, fun c hc hn hb => ?_⟩
    by_cases e : c = k
    · subst e
      exact hk hb
    · exact h2 c (by omega) hn hb
  · refine Or.inr ⟨i, by omega, i2, i3, i4, i5, fun c hc hn hb => ?_⟩
    by_cases e : c = k
    · subst e
      exact hk hb
    · exact i6 c (by omega) hn hb
theorem pm_pk_yes {n X k : Nat} {val : Nat → Int} {b : Int} (hk : k < n) (hb : pm_b X k = 1) (hv : val k = b) : pm_pk n X val b k (nI k) := Or.inr ⟨k, Nat.le_refl _, hk, rfl, hb, hv, fun c h1 h2 => by omega⟩
theorem pm_add {z : Int64} {x : Int32} (hz : -34359738368 ≤ z.toInt ∧ z.toInt ≤ 34359738368) : (z + x.toInt64).toInt = z.toInt + x.toInt := by
  have h1 := x.le_toInt
  have h2 := x.toInt_lt
  rw [Jvm.Kit.i64_add (by rw [Jvm.Kit.i64_of_i32]; omega) (by rw [Jvm.Kit.i64_of_i32]; omega), Jvm.Kit.i64_of_i32]
abbrev pm_v (co : Nat → Int32) (bs : Nat → Int64) (X row : Nat) : Nat → Int := fun c => (bs (pm_rm X c)).toInt + pd_C co row c
section RECKON
variable {p : Program} {l : Launch} {e : Env} {R : Room} {s : State} {m : MethodId} {args : Array Value} {below : List Frame} {meth : Method} {c : Code} {H : Heap} {locs : List Loc} {cells slots : Nat} {Q : State → Prop}
variable {pc : Nat} {ls : Array Slot} {rest : List Value} {dC : Nat → ClassId} {dI : Nat → Nat → Nat} {A : Nat → Prop} {nL : Nat}
variable {h : Nat} {ad : Nat → Nat} {cs : Nat → ClassId} {nn mk : Int32} {co : Nat → Int32} {bs : Nat → Int64} {gv : Nat → Int32}
set_option maxHeartbeats 4000000 in
set_option maxRecDepth 100000 in
theorem reckon_set {n X : Nat} (S : CallFix p m c cX1_reckon 7 s args lw_all RX1) (hf : cells ≤ R.cells ∧ slots ≤ R.slots) (hA : ∀ q : Nat, s.heap.size ≤ q → A q) (hK : va_K (dC, dI) vwCl (pmT cs) s) (hn : n ≤ 8) (hX : X < 2 ^ n) (hX0 : X ≠ 0) (hb0 : ∀ Y, Y < X → pm_best (pd_C co) n Y (bs Y).toInt)
    (kt : ∀ (b1 : Nat → Int64) (x3 : Int32) (H : Heap) (locs : List Loc) (ls : Array Slot), (∀ Y, Y ≠ X → b1 Y = bs Y) → pm_I X (pm_v co bs X (n - pm_cnt X)) (b1 X) n x3 → va_P (dC, dI) vwCl (pmW h ad cs (nI n) mk co b1 gv) H → va_D A (pmW h ad cs (nI n) mk co b1 gv) → va_S A s.heap H locs → lv_has ls 7 [(0, .ref h), (1, .int (nI X))] → W p l e R s m args below meth c H locs cells slots Q (F0 m 113 ls [])) :
    ∀ (j k : Nat) (b1 : Nat → Int64) (x3 : Int32) (H : Heap) (locs : List Loc) (ls : Array Slot), k + j = n → (∀ Y, Y ≠ X → b1 Y = bs Y) → pm_I X (pm_v co bs X (n - pm_cnt X)) (b1 X) k x3 → va_P (dC, dI) vwCl (pmW h ad cs (nI n) mk co b1 gv) H → va_D A (pmW h ad cs (nI n) mk co b1 gv) → va_S A s.heap H locs → lv_has ls 7 [(0, .ref h), (1, .int (nI X)), (2, .int (nI (n - pm_cnt X))), (3, .int x3), (4, .int (nI k))] → W p l e R s m args below meth c H locs cells slots Q (F0 m 34 ls []) := by
  obtain ⟨hx, hb, hml, hown, hts⟩ := id S
  have hpf := pm_full n (by omega)
  have hX2 : X < 256 := by omega
  have hrow : n - pm_cnt X < 8 := by
    have := pm_cnt_pos X hX2 hX0
    omega
  intro j
  induction j with
  | zero =>
    intro k b1 x3 H locs ls hk he hI hP hD hS hl
    refine lv_iload hx hb dX1_reckon_34 (lv_at hl 4 rfl) ?_
    refine lv_aload_n hx hb dX1_reckon_36 rfl (lv_at hl 0 rfl) ?_
    refine pm_g_nn S hK hP dX1_reckon_37 ?_
    refine pn_ge (tgt := 113) hx hb (by omega) (by omega) dX1_reckon_40 (by decide) (fun q => ?_) (fun q => ?_)
    · have e : k = n := by omega
      subst e
      exact kt b1 x3 H locs ls he hI hP hD hS (lv_sub hl [0, 1] rfl)
    · omega
  | succ j ih =>
    intro k b1 x3 H locs ls hk he hI hP hD hS hl
    refine lv_iload hx hb dX1_reckon_34 (lv_at hl 4 rfl) ?_
    refine lv_aload_n hx hb dX1_reckon_36 rfl (lv_at hl 0 rfl) ?_
    refine pm_g_nn S hK hP dX1_reckon_37 ?_
    refine pn_ge (tgt := 113) hx hb (by omega) (by omega) dX1_reckon_40 (by decide) (fun q => ?_) (fun q => ?_)
    · omega
    · refine lv_iload_n hx hb dX1_reckon_43 rfl (lv_at hl 1 rfl) ?_
      refine lv_iload hx hb dX1_reckon_44 (lv_at hl 4 rfl) ?_
      refine lv_ishr hx hb dX1_reckon_46 ?_
      refine lv_iconst (v := nI 1) hx hb dX1_reckon_47 (by decide) ?_
      refine lv_iand hx hb dX1_reckon_48 ?_
      refine pr_eqi (y := nI (pm_b X k)) (pm_i_bit X hX2 k (by omega)) ?_
      refine lv_if_eq (tgt := 107) hx hb dX1_reckon_49 (by decide) (fun q2 => ?_) (fun q2 => ?_)
      · refine lv_iinc (v := nI (k + 1)) (lv' := [(4, .int (nI (k + 1))), (0, .ref h), (1, .int (nI X)), (2, .int (nI (n - pm_cnt X))), (3, .int x3)]) hx hb dX1_reckon_107 hl (k := 4) rfl (nI_1 k) (by decide) rfl (fun ls hl => ?_)
        refine lv_goto (tgt := 34) hx hb dX1_reckon_110 (by decide) ?_
        exact ih (k + 1) b1 x3 H locs ls (by omega) (he) (pm_I_skip hI (pm_b01.1 q2)) hP hD hS (lv_sub hl [1, 2, 3, 4, 0] rfl)
      · have hbk := pm_b01.2 q2
        have hlt := pm_rm_lt X hX2 k (by omega) hbk
        refine lv_aload_n hx hb dX1_reckon_52 rfl (lv_at hl 0 rfl) ?_
        refine pm_g_bs S hK hP dX1_reckon_53 ?_
        refine lv_iload_n hx hb dX1_reckon_56 rfl (lv_at hl 1 rfl) ?_
        refine lv_iconst (v := nI 1) hx hb dX1_reckon_57 (by decide) ?_
        refine lv_iload hx hb dX1_reckon_58 (lv_at hl 4 rfl) ?_
        refine lv_ishl hx hb dX1_reckon_60 ?_
        refine lv_iconst (v := -1) hx hb dX1_reckon_61 (by decide) ?_
        refine lv_ixor hx hb dX1_reckon_62 ?_
        refine lv_iand hx hb dX1_reckon_63 ?_
        refine pr_eqi (y := nI (pm_rm X k)) (pm_i_and X hX2 k (by omega)) ?_
        refine pm_ld_bs S hK hP (by omega) dX1_reckon_64 ?_
        refine lv_aload_n hx hb dX1_reckon_65 rfl (lv_at hl 0 rfl) ?_
        refine pm_g_co S hK hP dX1_reckon_66 ?_
        refine lv_bipush (v := nI 8) hx hb dX1_reckon_69 (by decide) ?_
        refine lv_iload_n hx hb dX1_reckon_71 rfl (lv_at hl 2 rfl) ?_
        refine lv_imul hx hb dX1_reckon_72 ?_
        refine lv_iload hx hb dX1_reckon_73 (lv_at hl 4 rfl) ?_
        refine lv_iadd hx hb dX1_reckon_75 ?_
        refine pr_eqi (y := nI (8 * (n - pm_cnt X) + k)) (by rw [pk_mul, nI_add]) ?_
        refine pm_ld_co S hK hP (by omega) dX1_reckon_76 ?_
        refine lv_i2l hx hb dX1_reckon_77 rfl ?_
        refine lv_ladd hx hb dX1_reckon_78 ?_
        refine lv_topl (fun z ez => ?_)
        have ez2 : z.toInt = pm_v co bs X (n - pm_cnt X) k := by
          rw [ez, he _ (by omega), pm_add (pm_best_bd (pd_C_bd co) hn (hb0 _ hlt))]
          rfl
        refine lv_lstore (lv' := [(5, .long z), (0, .ref h), (1, .int (nI X)), (2, .int (nI (n - pm_cnt X))), (3, .int x3), (4, .int (nI k))]) hx hb dX1_reckon_79 hl (by decide) rfl (fun ls hl => ?_)
        refine lv_iload_n hx hb dX1_reckon_81 rfl (lv_at hl 4 rfl) ?_
        refine lv_if_eq (tgt := 97) hx hb dX1_reckon_82 (by decide) (fun q3 => ?_) (fun q3 => ?_)
        · refine lv_aload_n hx hb dX1_reckon_97 rfl (lv_at hl 1 rfl) ?_
          refine pm_g_bs S hK hP dX1_reckon_98 ?_
          refine lv_iload_n hx hb dX1_reckon_101 rfl (lv_at hl 2 rfl) ?_
          refine lv_lload hx hb dX1_reckon_102 (lv_at hl 0 rfl) ?_
          refine pm_st_bs S hK hP hD hS (by omega) dX1_reckon_104 (fun H locs hP hD hS => ?_)
          refine lv_iconst (v := 1) hx hb dX1_reckon_105 (by decide) ?_
          refine lv_istore_n (lv' := [(3, .int 1), (5, .long z), (0, .ref h), (1, .int (nI X)), (2, .int (nI (n - pm_cnt X))), (4, .int (nI k))]) hx hb dX1_reckon_106 rfl hl (by decide) rfl (fun ls hl => ?_)
          refine lv_iinc (v := nI (k + 1)) (lv' := [(4, .int (nI (k + 1))), (3, .int 1), (5, .long z), (0, .ref h), (1, .int (nI X)), (2, .int (nI (n - pm_cnt X)))]) hx hb dX1_reckon_107 hl (k := 5) rfl (nI_1 k) (by decide) rfl (fun ls hl => ?_)
          refine lv_goto (tgt := 34) hx hb dX1_reckon_110 (by decide) ?_
          exact ih (k + 1) (vp_updL b1 X z) 1 H locs ls (by omega) (fun Y hY => by rw [pk_uLn hY]; exact he Y hY) (by rw [pk_uLs]; exact pm_I_take hI hbk ez2 (Or.inl q3)) hP hD hS (lv_sub hl [3, 4, 5, 1, 0] rfl)
        · refine lv_lload hx hb dX1_reckon_85 (lv_at hl 0 rfl) ?_
          refine lv_aload_n hx hb dX1_reckon_87 rfl (lv_at hl 1 rfl) ?_
          refine pm_g_bs S hK hP dX1_reckon_88 ?_
          refine lv_iload_n hx hb dX1_reckon_91 rfl (lv_at hl 2 rfl) ?_
          refine pm_ld_bs S hK hP (by omega) dX1_reckon_92 ?_
          refine W.lcmp hx hb dX1_reckon_93 ?_
          refine lv_if_ge (tgt := 107) hx hb dX1_reckon_94 (by decide) (fun q4 => ?_) (fun q4 => ?_)
          · have q5 := Int64.le_iff_toInt_le.mp ((lg_cmp_ge _ _).mp q4)
            rw [ez2] at q5
            refine lv_iinc (v := nI (k + 1)) (lv' := [(4, .int (nI (k + 1))), (5, .long z), (0, .ref h), (1, .int (nI X)), (2, .int (nI (n - pm_cnt X))), (3, .int x3)]) hx hb dX1_reckon_107 hl (k := 5) rfl (nI_1 k) (by decide) rfl (fun ls hl => ?_)
            refine lv_goto (tgt := 34) hx hb dX1_reckon_110 (by decide) ?_
            exact ih (k + 1) b1 x3 H locs ls (by omega) (he) (pm_I_keep hI q3 q5) hP hD hS (lv_sub hl [2, 3, 4, 5, 0] rfl)
          · have q5 : z.toInt < (b1 X).toInt := Int.not_le.mp (fun w => q4 ((lg_cmp_ge _ _).mpr (Int64.le_iff_toInt_le.mpr w)))
            refine lv_aload_n hx hb dX1_reckon_97 rfl (lv_at hl 1 rfl) ?_
            refine pm_g_bs S hK hP dX1_reckon_98 ?_
            refine lv_iload_n hx hb dX1_reckon_101 rfl (lv_at hl 2 rfl) ?_
            refine lv_lload hx hb dX1_reckon_102 (lv_at hl 0 rfl) ?_
            refine pm_st_bs S hK hP hD hS (by omega) dX1_reckon_104 (fun H locs hP hD hS => ?_)
            refine lv_iconst (v := 1) hx hb dX1_reckon_105 (by decide) ?_
            refine lv_istore_n (lv' := [(3, .int 1), (5, .long z), (0, .ref h), (1, .int (nI X)), (2, .int (nI (n - pm_cnt X))), (4, .int (nI k))]) hx hb dX1_reckon_106 rfl hl (by decide) rfl (fun ls hl => ?_)
            refine lv_iinc (v := nI (k + 1)) (lv' := [(4, .int (nI (k + 1))), (3, .int 1), (5, .long z), (0, .ref h), (1, .int (nI X)), (2, .int (nI (n - pm_cnt X)))]) hx hb dX1_reckon_107 hl (k := 5) rfl (nI_1 k) (by decide) rfl (fun ls hl => ?_)
            refine lv_goto (tgt := 34) hx hb dX1_reckon_110 (by decide) ?_
            exact ih (k + 1) (vp_updL b1 X z) 1 H locs ls (by omega) (fun Y hY => by rw [pk_uLn hY]; exact he Y hY) (by rw [pk_uLs]; exact pm_I_take hI hbk ez2 (Or.inr q5)) hP hD hS (lv_sub hl [3, 4, 5, 1, 0] rfl)
set_option maxHeartbeats 4000000 in
set_option maxRecDepth 100000 in
theorem reckon_sets {n : Nat} (S : CallFix p m c cX1_reckon 7 s args lw_all RX1) (hf : cells ≤ R.cells ∧ slots ≤ R.slots) (hA : ∀ q : Nat, s.heap.size ≤ q → A q) (hK : va_K (dC, dI) vwCl (pmT cs) s) (hR : 1 ≤ R.frames ∧ 30 ≤ R.locals) (hn : n ≤ 8)
    (kt : ∀ (bs : Nat → Int64) (H : Heap) (locs : List Loc) (ls : Array Slot), (∀ Y, Y < 2 ^ n → pm_best (pd_C co) n Y (bs Y).toInt) → va_P (dC, dI) vwCl (pmW h ad cs (nI n) mk co bs gv) H → va_D A (pmW h ad cs (nI n) mk co bs gv) → va_S A s.heap H locs → lv_has ls 7 [(0, .ref h)] → W p l e R s m args below meth c H locs cells slots Q (F0 m 119 ls [])) :
    ∀ (j X : Nat) (bs : Nat → Int64) (H : Heap) (locs : List Loc) (ls : Array Slot), X + j = 2 ^ n → X ≠ 0 → (∀ Y, Y < X → pm_best (pd_C co) n Y (bs Y).toInt) → va_P (dC, dI) vwCl (pmW h ad cs (nI n) mk co bs gv) H → va_D A (pmW h ad cs (nI n) mk co bs gv) → va_S A s.heap H locs → lv_has ls 7 [(0, .ref h), (1, .int (nI X))] → W p l e R s m args below meth c H locs cells slots Q (F0 m 9 ls []) := by
  obtain ⟨hx, hb, hml, hown, hts⟩ := id S
  have hpf := pm_full n (by omega)
  intro j
  induction j with
  | zero =>
    intro X bs H locs ls hk h0 hb0 hP hD hS hl
    refine lv_iload_n hx hb dX1_reckon_9 rfl (lv_at hl 1 rfl) ?_
    refine lv_iconst (v := nI 1) hx hb dX1_reckon_10 (by decide) ?_
    refine lv_aload_n hx hb dX1_reckon_11 rfl (lv_at hl 0 rfl) ?_
    refine pm_g_nn S hK hP dX1_reckon_12 ?_
    refine lv_ishl hx hb dX1_reckon_15 ?_
    refine pr_eqi (y := nI (2 ^ n)) (pm_i_shl n (by omega)) ?_
    refine pn_ge (tgt := 119) hx hb (by omega) (by omega) dX1_reckon_16 (by decide) (fun q => ?_) (fun q => ?_)
    · have e : X = 2 ^ n := by omega
      subst e
      exact kt bs H locs ls hb0 hP hD hS (lv_sub hl [0] rfl)
    · omega
  | succ j ih =>
    intro X bs H locs ls hk h0 hb0 hP hD hS hl
    refine lv_iload_n hx hb dX1_reckon_9 rfl (lv_at hl 1 rfl) ?_
    refine lv_iconst (v := nI 1) hx hb dX1_reckon_10 (by decide) ?_
    refine lv_aload_n hx hb dX1_reckon_11 rfl (lv_at hl 0 rfl) ?_
    refine pm_g_nn S hK hP dX1_reckon_12 ?_
    refine lv_ishl hx hb dX1_reckon_15 ?_
    refine pr_eqi (y := nI (2 ^ n)) (pm_i_shl n (by omega)) ?_
    refine pn_ge (tgt := 119) hx hb (by omega) (by omega) dX1_reckon_16 (by decide) (fun q => ?_) (fun q => ?_)
    · omega
    · have hX2 : X < 256 := by omega
      have hcn := (pm_sub n (by omega) X q).1
      refine lv_aload_n hx hb dX1_reckon_19 rfl (lv_at hl 0 rfl) ?_
      refine pm_g_nn S hK hP dX1_reckon_20 ?_
      refine lv_iload_n hx hb dX1_reckon_23 rfl (lv_at hl 1 rfl) ?_
      refine pd_cSi (w := []) (wr := pmW h ad cs (nI n) mk co bs gv) S (met_mcount l dC dI X hX2 H.size) (va_cwS 1 S.2.2.2.2 (lw_S q139 q140 q8 q141) rfl rfl rfl (by decide +kernel) ⟨by have := hR.1; omega, by show 8 + (3 + 11) + 0 ≤ _; have := hR.2; omega⟩) hf hA (hK.sub (tys' := []) [] rfl) pd_nil hP hD hS rfl hl.1 rfl (Nat.le_of_ble_eq_true rfl) dX1_reckon_24 (fun r _ H locs hw _ hP hD hS => ?_)
      subst hw
      have hD : va_D A (pmW h ad cs (nI n) mk co bs gv) := hD
      refine lv_isub hx hb dX1_reckon_27 ?_
      refine pr_eqi (y := nI (n - pm_cnt X)) (pk_sub hcn) ?_
      refine lv_istore_n (lv' := [(2, .int (nI (n - pm_cnt X))), (0, .ref h), (1, .int (nI X))]) hx hb dX1_reckon_28 rfl hl (by decide) rfl (fun ls hl => ?_)
      refine lv_iconst (v := 0) hx hb dX1_reckon_29 (by decide) ?_
      refine lv_istore_n (lv' := [(3, .int 0), (2, .int (nI (n - pm_cnt X))), (0, .ref h), (1, .int (nI X))]) hx hb dX1_reckon_30 rfl hl (by decide) rfl (fun ls hl => ?_)
      refine lv_iconst (v := nI 0) hx hb dX1_reckon_31 (by decide) ?_
      refine lv_istore (lv' := [(4, .int (nI 0)), (3, .int 0), (2, .int (nI (n - pm_cnt X))), (0, .ref h), (1, .int (nI X))]) hx hb dX1_reckon_32 hl (by decide) rfl (fun ls hl => ?_)
      refine reckon_set (bs := bs) S hf hA hK hn q h0 hb0 (fun b1 x3 H locs ls he hI hP hD hS hl => ?_) n 0 bs 0 H locs ls (by omega) (fun _ _ => rfl) pm_I0 hP hD hS (lv_sub hl [3, 4, 2, 1, 0] rfl)
      have hbX : pm_best (pd_C co) n X (b1 X).toInt := by
        obtain ⟨c0, hc0, hbc0⟩ := pm_some n (by omega) X q h0
        rcases hI with ⟨-, h2⟩ | ⟨-, ⟨c, c1, c2, c3⟩, h3⟩
        · exact absurd hbc0 (h2 c0 hc0)
        · exact pm_best_step hn q (fun c => (bs (pm_rm X c)).toInt) (fun c hc hbc => hb0 _ (pm_rm_lt X hX2 c (by omega) hbc)) ⟨c, c1, c2, c3⟩ h3
      refine lv_iinc (v := nI (X + 1)) (lv' := [(1, .int (nI (X + 1))), (0, .ref h)]) hx hb dX1_reckon_113 hl (k := 1) rfl (nI_1 X) (by decide) rfl (fun ls hl => ?_)
      refine lv_goto (tgt := 9) hx hb dX1_reckon_116 (by decide) ?_
      refine ih (X + 1) b1 H locs ls (by omega) (by omega) (fun Y hY => ?_) hP hD hS (lv_sub hl [1, 0] rfl)
      by_cases e : Y = X
      · subst e
        exact hbX
      · rw [he Y e]
        exact hb0 Y (by omega)
set_option maxHeartbeats 4000000 in
set_option maxRecDepth 100000 in
theorem reckon_pick {n X row : Nat} (S : CallFix p m c cX1_reckon 7 s args lw_all RX1) (hf : cells ≤ R.cells ∧ slots ≤ R.slots) (hA : ∀ q : Nat, s.heap.size ≤ q → A q) (hK : va_K (dC, dI) vwCl (pmT cs) s) (hn : n ≤ 8) (hX : X < 2 ^ n) (hrow : row < 8) (hb0 : ∀ Y, Y < 2 ^ n → pm_best (pd_C co) n Y (bs Y).toInt)
    (kt : ∀ (x3 : Int32) (H : Heap) (locs : List Loc) (ls : Array Slot), pm_pk n X (pm_v co bs X row) (bs X).toInt 0 x3 → va_P (dC, dI) vwCl (pmW h ad cs (nI n) mk co bs gv) H → va_D A (pmW h ad cs (nI n) mk co bs gv) → va_S A s.heap H locs → lv_has ls 7 [(0, .ref h), (1, .int (nI X)), (2, .int (nI row)), (3, .int x3)] → W p l e R s m args below meth c H locs cells slots Q (F0 m 208 ls [])) :
    ∀ (k : Nat) (x3 : Int32) (H : Heap) (locs : List Loc) (ls : Array Slot), k ≤ n → pm_pk n X (pm_v co bs X row) (bs X).toInt k x3 → va_P (dC, dI) vwCl (pmW h ad cs (nI n) mk co bs gv) H → va_D A (pmW h ad cs (nI n) mk co bs gv) → va_S A s.heap H locs → lv_has ls 7 [(0, .ref h), (1, .int (nI X)), (2, .int (nI row)), (3, .int x3), (4, .int (nI k + (-1)))] → W p l e R s m args below meth c H locs cells slots Q (F0 m 148 ls []) := by
  obtain ⟨hx, hb, hml, hown, hts⟩ := id S
  have hpf := pm_full n (by omega)
  have hX2 : X < 256 := by omega
  intro k
  induction k with
  | zero =>
    intro x3 H locs ls hk hpk hP hD hS hl
    refine lv_iload hx hb dX1_reckon_148 (lv_at hl 4 rfl) ?_
    refine lv_if_lt (tgt := 208) hx hb dX1_reckon_150 (by decide) (fun q => ?_) (fun q => ?_)
    · exact kt x3 H locs ls hpk hP hD hS (lv_sub hl [0, 1, 2, 3] rfl)
    · exact absurd (by decide) q
  | succ k ih =>
    intro x3 H locs ls hk hpk hP hD hS hl
    rw [pk_m1] at hl
    refine lv_iload hx hb dX1_reckon_148 (lv_at hl 4 rfl) ?_
    refine lv_if_lt (tgt := 208) hx hb dX1_reckon_150 (by decide) (fun q => ?_) (fun q => ?_)
    · exact absurd q (pl_nn (by omega))
    · refine lv_iload_n hx hb dX1_reckon_153 rfl (lv_at hl 1 rfl) ?_
      refine lv_iload hx hb dX1_reckon_154 (lv_at hl 4 rfl) ?_
      refine lv_ishr hx hb dX1_reckon_156 ?_
      refine lv_iconst (v := nI 1) hx hb dX1_reckon_157 (by decide) ?_
      refine lv_iand hx hb dX1_reckon_158 ?_
      refine pr_eqi (y := nI (pm_b X k)) (pm_i_bit X hX2 k (by omega)) ?_
      refine lv_if_eq (tgt := 202) hx hb dX1_reckon_159 (by decide) (fun q2 => ?_) (fun q2 => ?_)
      · refine lv_iinc (v := nI k + (-1)) (lv' := [(4, .int (nI k + (-1))), (0, .ref h), (1, .int (nI X)), (2, .int (nI row)), (3, .int x3)]) hx hb dX1_reckon_202 hl (k := 4) rfl (by rw [show Int32.ofInt (-1) = (-1 : Int32) from by decide]) (by decide) rfl (fun ls hl => ?_)
        refine lv_goto (tgt := 148) hx hb dX1_reckon_205 (by decide) ?_
        exact ih x3 H locs ls (by omega) (pm_pk_no hpk (fun w => absurd w (pm_b01.1 q2))) hP hD hS (lv_sub hl [1, 2, 3, 4, 0] rfl)
      · have hbk := pm_b01.2 q2
        have hlt := pm_rm_lt X hX2 k (by omega) hbk
        refine lv_aload_n hx hb dX1_reckon_162 rfl (lv_at hl 0 rfl) ?_
        refine pm_g_bs S hK hP dX1_reckon_163 ?_
        refine lv_iload_n hx hb dX1_reckon_166 rfl (lv_at hl 1 rfl) ?_
        refine lv_iconst (v := nI 1) hx hb dX1_reckon_167 (by decide) ?_
        refine lv_iload hx hb dX1_reckon_168 (lv_at hl 4 rfl) ?_
        refine lv_ishl hx hb dX1_reckon_170 ?_
        refine lv_iconst (v := -1) hx hb dX1_reckon_171 (by decide) ?_
        refine lv_ixor hx hb dX1_reckon_172 ?_
        refine lv_iand hx hb dX1_reckon_173 ?_
        refine pr_eqi (y := nI (pm_rm X k)) (pm_i_and X hX2 k (by omega)) ?_
        refine pm_ld_bs S hK hP (by omega) dX1_reckon_174 ?_
        refine lv_aload_n hx hb dX1_reckon_175 rfl (lv_at hl 0 rfl) ?_
        refine pm_g_co S hK hP dX1_reckon_176 ?_
        refine lv_bipush (v := nI 8) hx hb dX1_reckon_179 (by decide) ?_
        refine lv_iload_n hx hb dX1_reckon_181 rfl (lv_at hl 2 rfl) ?_
        refine lv_imul hx hb dX1_reckon_182 ?_
        refine lv_iload hx hb dX1_reckon_183 (lv_at hl 4 rfl) ?_
        refine lv_iadd hx hb dX1_reckon_185 ?_
        refine pr_eqi (y := nI (8 * row + k)) (by rw [pk_mul, nI_add]) ?_
        refine pm_ld_co S hK hP (by omega) dX1_reckon_186 ?_
        refine lv_i2l hx hb dX1_reckon_187 rfl ?_
        refine lv_ladd hx hb dX1_reckon_188 ?_
        refine lv_topl (fun z ez => ?_)
        have ez2 : z.toInt = pm_v co bs X row k := by
          rw [ez, pm_add (pm_best_bd (pd_C_bd co) hn (hb0 _ (by omega)))]
          rfl
        refine lv_aload_n hx hb dX1_reckon_189 rfl (lv_at hl 0 rfl) ?_
        refine pm_g_bs S hK hP dX1_reckon_190 ?_
        refine lv_iload_n hx hb dX1_reckon_193 rfl (lv_at hl 1 rfl) ?_
        refine pm_ld_bs S hK hP (by omega) dX1_reckon_194 ?_
        refine W.lcmp hx hb dX1_reckon_195 ?_
        refine lv_if_ne (tgt := 202) hx hb dX1_reckon_196 (by decide) (fun q3 => ?_) (fun q3 => ?_)
        · refine lv_iinc (v := nI k + (-1)) (lv' := [(4, .int (nI k + (-1))), (0, .ref h), (1, .int (nI X)), (2, .int (nI row)), (3, .int x3)]) hx hb dX1_reckon_202 hl (k := 4) rfl (by rw [show Int32.ofInt (-1) = (-1 : Int32) from by decide]) (by decide) rfl (fun ls hl => ?_)
          refine lv_goto (tgt := 148) hx hb dX1_reckon_205 (by decide) ?_
          exact ih x3 H locs ls (by omega) (pm_pk_no hpk (fun _ w => q3 ((lg_cmp_eq _ _).mpr (Int64.toInt_inj.mp (ez2.trans w))))) hP hD hS (lv_sub hl [1, 2, 3, 4, 0] rfl)
        · have q4 : z = bs X := (lg_cmp_eq _ _).mp q3
          refine lv_iload hx hb dX1_reckon_199 (lv_at hl 4 rfl) ?_
          refine lv_istore_n (lv' := [(3, .int (nI k)), (0, .ref h), (1, .int (nI X)), (2, .int (nI row)), (4, .int (nI k))]) hx hb dX1_reckon_201 rfl hl (by decide) rfl (fun ls hl => ?_)
          refine lv_iinc (v := nI k + (-1)) (lv' := [(4, .int (nI k + (-1))), (3, .int (nI k)), (0, .ref h), (1, .int (nI X)), (2, .int (nI row))]) hx hb dX1_reckon_202 hl (k := 4) rfl (by rw [show Int32.ofInt (-1) = (-1 : Int32) from by decide]) (by decide) rfl (fun ls hl => ?_)
          refine lv_goto (tgt := 148) hx hb dX1_reckon_205 (by decide) ?_
          exact ih (nI k) H locs ls (by omega) (pm_pk_yes (by omega) hbk (by rw [← ez2, q4])) hP hD hS (lv_sub hl [2, 3, 4, 1, 0] rfl)
set_option maxHeartbeats 4000000 in
set_option maxRecDepth 100000 in
theorem reckon_rows {n : Nat} (S : CallFix p m c cX1_reckon 7 s args lw_all RX1) (hf : cells ≤ R.cells ∧ slots ≤ R.slots) (hA : ∀ q : Nat, s.heap.size ≤ q → A q) (hK : va_K (dC, dI) vwCl (pmT cs) s) (hn : n ≤ 8) (hb0 : ∀ Y, Y < 2 ^ n → pm_best (pd_C co) n Y (bs Y).toInt)
    (kt : ∀ (g : Nat → Nat) (X : Nat) (gv : Nat → Int32) (H : Heap) (locs : List Loc) (ls : Array Slot), pm_K (pd_C co) n (fun Y => (bs Y).toInt) n X g → (∀ r, r < n → gv r = nI (g r)) → va_P (dC, dI) vwCl (pmW h ad cs (nI n) mk co bs gv) H → va_D A (pmW h ad cs (nI n) mk co bs gv) → va_S A s.heap H locs → lv_has ls 7 [(0, .ref h)] → W p l e R s m args below meth c H locs cells slots Q (F0 m 229 ls [])) :
    ∀ (j row : Nat) (g : Nat → Nat) (X : Nat) (gv : Nat → Int32) (H : Heap) (locs : List Loc) (ls : Array Slot), row + j = n → pm_K (pd_C co) n (fun Y => (bs Y).toInt) row X g → (∀ r, r < row → gv r = nI (g r)) → va_P (dC, dI) vwCl (pmW h ad cs (nI n) mk co bs gv) H → va_D A (pmW h ad cs (nI n) mk co bs gv) → va_S A s.heap H locs → lv_has ls 7 [(0, .ref h), (1, .int (nI X)), (2, .int (nI row))] → W p l e R s m args below meth c H locs cells slots Q (F0 m 130 ls []) := by
  obtain ⟨hx, hb, hml, hown, hts⟩ := id S
  have hpf := pm_full n (by omega)
  intro j
  induction j with
  | zero =>
    intro row g X gv H locs ls hk hK2 hgv hP hD hS hl
    refine lv_iload_n hx hb dX1_reckon_130 rfl (lv_at hl 2 rfl) ?_
    refine lv_aload_n hx hb dX1_reckon_131 rfl (lv_at hl 0 rfl) ?_
    refine pm_g_nn S hK hP dX1_reckon_132 ?_
    refine pn_ge (tgt := 229) hx hb (by omega) (by omega) dX1_reckon_135 (by decide) (fun q => ?_) (fun q => ?_)
    · have e : row = n := by omega
      subst e
      exact kt g X gv H locs ls hK2 hgv hP hD hS (lv_sub hl [0] rfl)
    · omega
  | succ j ih =>
    intro row g X gv H locs ls hk hK2 hgv hP hD hS hl
    refine lv_iload_n hx hb dX1_reckon_130 rfl (lv_at hl 2 rfl) ?_
    refine lv_aload_n hx hb dX1_reckon_131 rfl (lv_at hl 0 rfl) ?_
    refine pm_g_nn S hK hP dX1_reckon_132 ?_
    refine pn_ge (tgt := 229) hx hb (by omega) (by omega) dX1_reckon_135 (by decide) (fun q => ?_) (fun q => ?_)
    · omega
    · obtain ⟨z1, z2, z3⟩ := pm_K_left hn hK2 q
      have hX := hK2.2.1
      refine lv_iconst (v := -1) hx hb dX1_reckon_138 (by decide) ?_
      refine lv_istore_n (lv' := [(3, .int (-1)), (0, .ref h), (1, .int (nI X)), (2, .int (nI row))]) hx hb dX1_reckon_139 rfl hl (by decide) rfl (fun ls hl => ?_)
      refine lv_aload_n hx hb dX1_reckon_140 rfl (lv_at hl 1 rfl) ?_
      refine pm_g_nn S hK hP dX1_reckon_141 ?_
      refine lv_iconst (v := nI 1) hx hb dX1_reckon_144 (by decide) ?_
      refine lv_isub hx hb dX1_reckon_145 ?_
      refine pr_eqi (y := nI n + (-1)) (by rw [Int32.sub_eq_add_neg]; rfl) ?_
      refine lv_istore (lv' := [(4, .int (nI n + (-1))), (3, .int (-1)), (0, .ref h), (1, .int (nI X)), (2, .int (nI row))]) hx hb dX1_reckon_146 hl (by decide) rfl (fun ls hl => ?_)
      refine reckon_pick S hf hA hK hn hX (show row < 8 by omega) hb0 (fun x3 H locs ls hpk hP hD hS hl => ?_) n (-1) H locs ls (Nat.le_refl _) (Or.inl ⟨rfl, fun c h1 h2 => by omega⟩) hP hD hS (lv_sub hl [2, 3, 4, 1, 0] rfl)
      obtain ⟨i, i2, i3, i4, i5, i6⟩ : ∃ i, i < n ∧ x3 = nI i ∧ pm_b X i = 1 ∧ pm_v co bs X row i = (bs X).toInt ∧ ∀ c, c < i → pm_b X c = 1 → pm_v co bs X row c ≠ (bs X).toInt := by
        rcases hpk with ⟨-, h2⟩ | ⟨i, -, i2, i3, i4, i5, i6⟩
        · obtain ⟨c, c1, c2, c3⟩ := pm_attain (C := pd_C co) (bs := fun Y => (bs Y).toInt) hn hX z1 hb0
          rw [z3] at c3
          exact absurd c3 (h2 c (Nat.zero_le _) c1 c2)
        · exact ⟨i, i2, i3, i4, i5, fun c hc => i6 c (Nat.zero_le _) hc⟩
      subst i3
      have hK3 := pm_K_step hn hb0 hK2 q i2 i4 i5 i6
      refine lv_aload_n hx hb dX1_reckon_208 rfl (lv_at hl 0 rfl) ?_
      refine pm_g_gv S hK hP dX1_reckon_209 ?_
      refine lv_iload_n hx hb dX1_reckon_212 rfl (lv_at hl 2 rfl) ?_
      refine lv_iload_n hx hb dX1_reckon_213 rfl (lv_at hl 3 rfl) ?_
      refine pm_st_gv S hK hP hD hS (by omega) dX1_reckon_214 (fun H locs hP hD hS => ?_)
      refine lv_iload_n hx hb dX1_reckon_215 rfl (lv_at hl 1 rfl) ?_
      refine lv_iconst (v := nI 1) hx hb dX1_reckon_216 (by decide) ?_
      refine lv_iload_n hx hb dX1_reckon_217 rfl (lv_at hl 3 rfl) ?_
      refine lv_ishl hx hb dX1_reckon_218 ?_
      refine lv_iconst (v := -1) hx hb dX1_reckon_219 (by decide) ?_
      refine lv_ixor hx hb dX1_reckon_220 ?_
      refine lv_iand hx hb dX1_reckon_221 ?_
      refine pr_eqi (y := nI (pm_rm X i)) (pm_i_and X z2 i (by omega)) ?_
      refine lv_istore_n (lv' := [(1, .int (nI (pm_rm X i))), (0, .ref h), (2, .int (nI row)), (3, .int (nI i))]) hx hb dX1_reckon_222 rfl hl (by decide) rfl (fun ls hl => ?_)
      refine lv_iinc (v := nI (row + 1)) (lv' := [(2, .int (nI (row + 1))), (1, .int (nI (pm_rm X i))), (0, .ref h), (3, .int (nI i))]) hx hb dX1_reckon_223 hl (k := 2) rfl (nI_1 row) (by decide) rfl (fun ls hl => ?_)
      refine lv_goto (tgt := 130) hx hb dX1_reckon_226 (by decide) ?_
      refine ih (row + 1) _ (pm_rm X i) _ H locs ls (by omega) hK3 (fun r hr => ?_) hP hD hS (lv_sub hl [2, 1, 0] rfl)
      show upd gv row (nI i) r = nI (if r = row then i else g r)
      by_cases e : r = row
      · rw [if_pos e, e]
        exact pk_us
      · rw [if_neg e, pk_un e]
        exact hgv r (by omega)
end RECKON
set_option maxHeartbeats 4000000 in
set_option maxRecDepth 100000 in
theorem met_reckon (l : Launch) (dC : Nat → ClassId) (dI : Nat → Nat → Nat) (h : Nat) (ad : Nat → Nat) (cs : Nat → ClassId) (mk : Int32) (co : Nat → Int32) (bs : Nat → Int64) (gv : Nat → Int32) (n : Nat) (hn : n ≤ 8) (sz : Nat) : Met l yX1_reckon (ws_ yX1_reckon cX1_reckon 7 none) ({ frames := 1, cells := 0, slots := 0, locals := 30 } : Room) (va_Pc [.ref h] (pdPre dC dI (pmT cs) sz (pmW h ad cs (nI n) mk co bs gv))) (va_Qv (fun (g : (Nat → Int64) × (Nat → Int32)) => ∃ f, pd_lex (pd_C co) n f ∧ (∀ r, r < n → g.2 r = nI (f r)) ∧ (g.1 (2 ^ n - 1)).toInt = pd_cost (pd_C co) n f) (fun g t => pdPost dC dI (va_A (pmW h ad cs (nI n) mk co bs gv) sz) (pmW h ad cs (nI n) 1 co g.1 g.2) t) (va_A (pmW h ad cs (nI n) mk co bs gv) sz)) 0 0 (va_A (pmW h ad cs (nI n) mk co bs gv) sz) := by
  refine Met.ofW (cc := cX1_reckon) (maxL := 7) (ret := none) (by decide) rfl ?_
  intro p e s m args below meth c s₁ B hml hv
  obtain ⟨rfl, hsz, hP, hK, hD0⟩ := hv
  have hx := B.exec
  have hb := B.bytes
  have hr := B.returns
  have hts0 := atoms_spec (ws := ws_ yX1_reckon cX1_reckon 7 none) B.pre
  have hts : ∀ w ∈ lw_all, w.before _ s = true := fun w h => hts0 w (List.mem_cons_of_mem _ h)
  have hown : s.vm.findClass RX1 = some m.cls := findClass_of_methodNamed B.named
  have hlocks := B.notSynchronized
  have S : CallFix p m c cX1_reckon 7 s ([.ref h] : List Value).toArray lw_all RX1 := ⟨hx, hb, hml, hown, hts⟩
  subst hsz
  have hD := hD0.self (sz := s.heap.size)
  generalize hAe : va_A (pmW h ad cs (nI n) mk co bs gv) s.heap.size = A at hD ⊢
  have hA : ∀ q : Nat, s.heap.size ≤ q → A q := fun q h => by rw [← hAe]; exact Or.inr h
  have hS : va_S A s.heap s.heap [] := va_S.rf
  have hl := lv_entry ([.ref h]) (n := 7) (Nat.le_of_ble_eq_true rfl)
  rw [lg_entry_eq]
  generalize (lg_sl ([.ref h]) ++ List.replicate (7 - (lg_sl ([.ref h])).length) Slot.unset).toArray = ls at hl ⊢
  have hl : lv_has ls 7 [(0, .ref h)] := hl
  have hf : (0 : Nat) ≤ 0 ∧ (0 : Nat) ≤ 0 := ⟨Nat.le_refl _, Nat.le_refl _⟩
  have hpf := pm_full n (by omega)
  refine lv_aload_n hx hb dX1_reckon_0 rfl (lv_at hl 0 rfl) ?_
  refine pm_g_bs S hK hP dX1_reckon_1 ?_
  refine lv_iconst (v := nI 0) hx hb dX1_reckon_4 (by decide) ?_
  refine lv_lconst (v := 0) hx hb dX1_reckon_5 (by decide) ?_
  refine pm_st_bs S hK hP hD hS (by omega) dX1_reckon_6 (fun H locs hP hD hS => ?_)
  refine lv_iconst (v := nI 1) hx hb dX1_reckon_7 (by decide) ?_
  refine lv_istore_n (lv' := [(1, .int (nI 1)), (0, .ref h)]) hx hb dX1_reckon_8 rfl hl (by decide) rfl (fun ls hl => ?_)
  refine reckon_sets S hf hA hK ⟨Nat.le_refl _, Nat.le_refl _⟩ hn (fun b1 H locs ls hb1 hP hD hS hl => ?_) (2 ^ n - 1) 1 _ H locs ls (by omega) (by omega) (fun Y hY => ?_) hP hD hS (lv_sub hl [1, 0] rfl)
  · refine lv_iconst (v := nI 1) hx hb dX1_reckon_119 (by decide) ?_
    refine lv_aload_n hx hb dX1_reckon_120 rfl (lv_at hl 0 rfl) ?_
    refine pm_g_nn S hK hP dX1_reckon_121 ?_
    refine lv_ishl hx hb dX1_reckon_124 ?_
    refine pr_eqi (y := nI (2 ^ n)) (pm_i_shl n (by omega)) ?_
    refine lv_iconst (v := nI 1) hx hb dX1_reckon_125 (by decide) ?_
    refine lv_isub hx hb dX1_reckon_126 ?_
    refine pr_eqi (y := nI (2 ^ n - 1)) (pk_sub hpf.2.2.2.1) ?_
    refine lv_istore_n (lv' := [(1, .int (nI (2 ^ n - 1))), (0, .ref h)]) hx hb dX1_reckon_127 rfl hl (by decide) rfl (fun ls hl => ?_)
    refine lv_iconst (v := nI 0) hx hb dX1_reckon_128 (by decide) ?_
    refine lv_istore_n (lv' := [(2, .int (nI 0)), (1, .int (nI (2 ^ n - 1))), (0, .ref h)]) hx hb dX1_reckon_129 rfl hl (by decide) rfl (fun ls hl => ?_)
    refine reckon_rows S hf hA hK hn hb1 (fun g X gv1 H locs ls hK2 hgv hP hD hS hl => ?_) n 0 (fun _ => 0) (2 ^ n - 1) gv H locs ls (by omega) (pm_K0 _ hn) (fun r hr => by omega) hP hD hS (lv_sub hl [2, 1, 0] rfl)
    obtain ⟨hlex, hcost⟩ := pm_K_end hn hb1 hK2
    refine lv_aload_n hx hb dX1_reckon_229 rfl (lv_at hl 0 rfl) ?_
    refine lv_iconst (v := 1) hx hb dX1_reckon_230 (by decide) ?_
    refine pm_p_mk S hK hP hD hS rfl rfl dX1_reckon_231 (fun H locs hP hD hS => ?_)
    exact W.vret hx hb hr (fun t ht hW => ⟨⟨(b1, gv1), rfl, ⟨g, hlex, hgv, hcost.symm⟩, by rw [ht]; exact hP, hD⟩, hS.F ht⟩) hS.2.2 dX1_reckon_234
  · have e : Y = 0 := by omega
    subst e
    rw [pk_uLs]
    exact pm_best0 _ n
set_option maxHeartbeats 4000000 in
set_option maxRecDepth 100000 in
theorem met_mleast (l : Launch) (dC : Nat → ClassId) (dI : Nat → Nat → Nat) (h : Nat) (ad : Nat → Nat) (cs : Nat → ClassId) (mk : Int32) (co : Nat → Int32) (bs : Nat → Int64) (gv : Nat → Int32) (n : Nat) (hn : n ≤ 8) (sz : Nat) : Met l yX1_least (ws_ yX1_least cX1_least 1 (some .long)) ({ frames := 2, cells := 0, slots := 0, locals := 60 } : Room) (va_Pc [.ref h] (pdPre dC dI (pmT cs) sz (pmW h ad cs (nI n) mk co bs gv))) (va_Ql (fun (r : Int64) (g : (Nat → Int64) × (Nat → Int32)) => ∃ f, pd_lex (pd_C co) n f ∧ (∀ r, r < n → g.2 r = nI (f r)) ∧ r.toInt = pd_cost (pd_C co) n f) (fun g t => pdPost dC dI (va_A (pmW h ad cs (nI n) mk co bs gv) sz) (pmW h ad cs (nI n) 1 co g.1 g.2) t) (va_A (pmW h ad cs (nI n) mk co bs gv) sz)) 0 0 (va_A (pmW h ad cs (nI n) mk co bs gv) sz) := by
  refine Met.ofW (cc := cX1_least) (maxL := 1) (ret := some .long) (by decide) rfl ?_
  intro p e s m args below meth c s₁ B hml hv
  obtain ⟨rfl, hsz, hP, hK, hD0⟩ := hv
  have hx := B.exec
  have hb := B.bytes
  have hr := B.returns
  have hts0 := atoms_spec (ws := ws_ yX1_least cX1_least 1 (some .long)) B.pre
  have hts : ∀ w ∈ lw_all, w.before _ s = true := fun w h => hts0 w (List.mem_cons_of_mem _ h)
  have hown : s.vm.findClass RX1 = some m.cls := findClass_of_methodNamed B.named
  have hlocks := B.notSynchronized
  have S : CallFix p m c cX1_least 1 s ([.ref h] : List Value).toArray lw_all RX1 := ⟨hx, hb, hml, hown, hts⟩
  subst hsz
  have hD := hD0.self (sz := s.heap.size)
  generalize hAe : va_A (pmW h ad cs (nI n) mk co bs gv) s.heap.size = A at hD ⊢
  have hA : ∀ q : Nat, s.heap.size ≤ q → A q := fun q h => by rw [← hAe]; exact Or.inr h
  have hS : va_S A s.heap s.heap [] := va_S.rf
  have hl := lv_entry ([.ref h]) (n := 1) (Nat.le_of_ble_eq_true rfl)
  rw [lg_entry_eq]
  generalize (lg_sl ([.ref h]) ++ List.replicate (1 - (lg_sl ([.ref h])).length) Slot.unset).toArray = ls at hl ⊢
  have hl : lv_has ls 1 [(0, .ref h)] := hl
  have hf : (0 : Nat) ≤ 0 ∧ (0 : Nat) ≤ 0 := ⟨Nat.le_refl _, Nat.le_refl _⟩
  have hpf := pm_full n (by omega)
  refine lv_aload_n hx hb dX1_least_0 rfl (lv_at hl 0 rfl) ?_
  refine pd_cVv (wr := []) S (met_reckon l dC dI h ad cs mk co bs gv n hn s.heap.size) (cwV 0 S.2.2.2.2 (lw_V q135 q137 qs5 q8 q138) rfl rfl rfl (by decide +kernel) ⟨by show 1 + 1 ≤ 2; omega, by show 8 + (7 + 11) + 30 ≤ 60; omega⟩) hf hA hK hP pd_nil (pd_an hD) hS (va_recv hK hP (ci := 1) (q0 := 0) rfl rfl) rfl hl.1 rfl (Nat.le_of_ble_eq_true rfl) dX1_least_1 (fun g H locs hw hP _ hD hS => ?_)
  obtain ⟨b1, gv1⟩ := g
  have hP : va_P (dC, dI) vwCl (pmW h ad cs (nI n) 1 co b1 gv1) H := hP
  have hD : va_D A (pmW h ad cs (nI n) 1 co b1 gv1) := pd_na hD
  obtain ⟨f, hlex, hgv, hc⟩ : ∃ f, pd_lex (pd_C co) n f ∧ (∀ r, r < n → gv1 r = nI (f r)) ∧ (b1 (2 ^ n - 1)).toInt = pd_cost (pd_C co) n f := hw
  refine lv_aload_n hx hb dX1_least_4 rfl (lv_at hl 0 rfl) ?_
  refine pm_g_bs S hK hP dX1_least_5 ?_
  refine lv_iconst (v := nI 1) hx hb dX1_least_8 (by decide) ?_
  refine lv_aload_n hx hb dX1_least_9 rfl (lv_at hl 0 rfl) ?_
  refine pm_g_nn S hK hP dX1_least_10 ?_
  refine lv_ishl hx hb dX1_least_13 ?_
  refine pr_eqi (y := nI (2 ^ n)) (pm_i_shl n (by omega)) ?_
  refine lv_iconst (v := nI 1) hx hb dX1_least_14 (by decide) ?_
  refine lv_isub hx hb dX1_least_15 ?_
  refine pr_eqi (y := nI (2 ^ n - 1)) (pk_sub hpf.2.2.2.1) ?_
  refine pm_ld_bs S hK hP (by omega) dX1_least_16 ?_
  exact W.lret hx hb hr (fun t ht hW => ⟨⟨_, (b1, gv1), rfl, ⟨f, hlex, hgv, hc⟩, by rw [ht]; exact hP, hD⟩, hS.F ht⟩) hS.2.2 dX1_least_17
end
section
/-! the two constructors -/
set_option maxRecDepth 100000
set_option maxHeartbeats 4000000 in
set_option maxRecDepth 100000 in
theorem met_init (l : Launch) (dC : Nat → ClassId) (dI : Nat → Nat → Nat) (h : Nat) (sz : Nat) : Met l yX0_init (ws_ yX0_init cX0_init 1 none) ({ frames := 1, cells := 8, slots := 123, locals := 12 } : Room) (va_Pc [.ref h] (pdPre dC dI [] sz [(h, .inr (0, [.null, .int 0, .int 0, .null, .null, .null, .null, .null, .null, .null]))])) (va_Qv (fun (_ : (Nat → Nat) × (Nat → ClassId)) => True) (fun g t => va_P (dC, dI) vwCl (pdW h g.1 g.2 (nI 1) 0 (fun _ => 0) (fun _ => 0) (fun _ => 0) (fun _ => 0) (fun _ => 0) (fun _ => 0) (fun _ => 0) (fun _ => 0)) t.heap ∧ va_K (dC, dI) vwCl (pdT g.2) t ∧ va_D (va_A [(h, .inr (0, [.null, .int 0, .int 0, .null, .null, .null, .null, .null, .null, .null]))] sz) (pdW h g.1 g.2 (nI 1) 0 (fun _ => 0) (fun _ => 0) (fun _ => 0) (fun _ => 0) (fun _ => 0) (fun _ => 0) (fun _ => 0) (fun _ => 0))) (va_A [(h, .inr (0, [.null, .int 0, .int 0, .null, .null, .null, .null, .null, .null, .null]))] sz)) 8 123 (va_A [(h, .inr (0, [.null, .int 0, .int 0, .null, .null, .null, .null, .null, .null, .null]))] sz) := by
  refine Met.ofW (cc := cX0_init) (maxL := 1) (ret := none) (by decide) rfl ?_
  intro p e s m args below meth c s₁ B hml hv
  obtain ⟨rfl, hsz, hP, hK, hD0⟩ := hv
  have hx := B.exec
  have hb := B.bytes
  have hr := B.returns
  have hts0 := atoms_spec (ws := ws_ yX0_init cX0_init 1 none) B.pre
  have hts : ∀ w ∈ lw_all, w.before _ s = true := fun w h => hts0 w (List.mem_cons_of_mem _ h)
  have hown : s.vm.findClass RX0 = some m.cls := findClass_of_methodNamed B.named
  have hlocks := B.notSynchronized
  have S : CallFix p m c cX0_init 1 s ([.ref h] : List Value).toArray lw_all RX0 := ⟨hx, hb, hml, hown, hts⟩
  subst hsz
  have hD := hD0.self (sz := s.heap.size)
  generalize hAe : va_A ([(h, .inr (0, [.null, .int 0, .int 0, .null, .null, .null, .null, .null, .null, .null]))]) s.heap.size = A at hD ⊢
  have hA : ∀ q : Nat, s.heap.size ≤ q → A q := fun q h => by rw [← hAe]; exact Or.inr h
  have hS : va_S A s.heap s.heap [] := va_S.rf
  have hl := lv_entry ([.ref h]) (n := 1) (Nat.le_of_ble_eq_true rfl)
  rw [lg_entry_eq]
  generalize (lg_sl ([.ref h]) ++ List.replicate (1 - (lg_sl ([.ref h])).length) Slot.unset).toArray = ls at hl ⊢
  have hl : lv_has ls 1 [(0, .ref h)] := hl
  have hin : meth.name = "<init>" := (name_of_methodNamed B.named B.method).1
  refine lv_aload_n hx hb dX0_init_0 rfl (lv_at hl 0 rfl) ?_
  refine W.objInit hx hb hown (hts _ q15) (hts _ q16) (hts _ q17) rfl (by rw [hml]; exact hl.1) rfl dX0_init_1 (Nat.le_of_ble_eq_true rfl) (Nat.le_of_ble_eq_true rfl) ?_
  refine W.eq (g2 := F0 m 4 ls []) rfl ?_
  refine lv_aload_n hx hb dX0_init_4 rfl (lv_at hl 0 rfl) ?_
  refine lv_bipush (v := nI 64) hx hb dX0_init_5 (by decide) ?_
  refine va_newa (atype := .int) (ty := .int) (a0 := (64, .inl (fun _ => 0))) (N' := 64) hx hb (hts _ q49) rfl hK hP hD hS hA (fun _ => rfl) (by decide) (by decide) (by decide) (Nat.le_of_ble_eq_true rfl) (Nat.le_of_ble_eq_true rfl) dX0_init_7 (fun q0 c0 H hK hP hD hS => ?_)
  have hP : va_P (dC, dI) vwCl [(h, .inr (0, [.null, .int 0, .int 0, .null, .null, .null, .null, .null, .null, .null])), (q0, .inl (c0, (64, .inl (fun _ => 0))))] H := hP
  have hD : va_D A [(h, .inr (0, [.null, .int 0, .int 0, .null, .null, .null, .null, .null, .null, .null])), (q0, .inl (c0, (64, .inl (fun _ => 0))))] := hD
  have hK : va_K (dC, dI) vwCl [(c0, .int)] s := hK
  refine W.widen (k := 1) (n := 64) (Nat.le_refl _) (Nat.le_refl _) ?_
  refine va_putF (D := (dC, dI)) (ci := 0) (v := .ref q0) (ty := .array .int) (C := RX0) (T := TX0) (N := 10) hx hb hts in_X0 tyX0 tyX0_ok nmX0 hown hK hP hD hS 0 rfl rfl 0 (by decide) (hts _ q18) (fun _ h9 => h9) rfl hin rfl (by decide +kernel) rfl rfl (Nat.le_of_ble_eq_true rfl) dX0_init_9 (fun H locs hP hD hS => ?_)
  have hP : va_P (dC, dI) vwCl [(h, .inr (0, [.ref q0, .int 0, .int 0, .null, .null, .null, .null, .null, .null, .null])), (q0, .inl (c0, (64, .inl (fun _ => 0))))] H := hP
  have hD : va_D A [(h, .inr (0, [.ref q0, .int 0, .int 0, .null, .null, .null, .null, .null, .null, .null])), (q0, .inl (c0, (64, .inl (fun _ => 0))))] := hD
  refine lv_aload_n hx hb dX0_init_12 rfl (lv_at hl 0 rfl) ?_
  refine lv_iconst (v := nI 1) hx hb dX0_init_13 (by decide) ?_
  refine va_put (D := (dC, dI)) (ci := 0) (v := .int (nI 1)) (ty := .int) (C := RX0) (T := TX0) (N := 10) hx hb hts in_X0 tyX0 tyX0_ok nmX0 hown hK hP hD hS 0 rfl rfl 1 (by decide) (hts _ q19) (fun _ h9 => h9) rfl (by decide +kernel) rfl rfl (Nat.le_of_ble_eq_true rfl) dX0_init_14 (fun H locs hP hD hS => ?_)
  have hP : va_P (dC, dI) vwCl [(h, .inr (0, [.ref q0, .int (nI 1), .int 0, .null, .null, .null, .null, .null, .null, .null])), (q0, .inl (c0, (64, .inl (fun _ => 0))))] H := hP
  have hD : va_D A [(h, .inr (0, [.ref q0, .int (nI 1), .int 0, .null, .null, .null, .null, .null, .null, .null])), (q0, .inl (c0, (64, .inl (fun _ => 0))))] := hD
  refine lv_aload_n hx hb dX0_init_17 rfl (lv_at hl 0 rfl) ?_
  refine lv_bipush (v := nI 8) hx hb dX0_init_18 (by decide) ?_
  refine va_newa (atype := .long) (ty := .long) (a0 := (8, .inr (.inl (fun _ => 0)))) (N' := 8) hx hb (hts _ q50) rfl hK hP hD hS hA (fun _ => rfl) (by decide) (by decide) (by decide) (Nat.le_of_ble_eq_true rfl) (Nat.le_of_ble_eq_true rfl) dX0_init_20 (fun q1 c1 H hK hP hD hS => ?_)
  have hP : va_P (dC, dI) vwCl [(h, .inr (0, [.ref q0, .int (nI 1), .int 0, .null, .null, .null, .null, .null, .null, .null])), (q0, .inl (c0, (64, .inl (fun _ => 0)))), (q1, .inl (c1, (8, .inr (.inl (fun _ => 0)))))] H := hP
  have hD : va_D A [(h, .inr (0, [.ref q0, .int (nI 1), .int 0, .null, .null, .null, .null, .null, .null, .null])), (q0, .inl (c0, (64, .inl (fun _ => 0)))), (q1, .inl (c1, (8, .inr (.inl (fun _ => 0)))))] := hD
  have hK : va_K (dC, dI) vwCl [(c0, .int), (c1, .long)] s := hK
  refine W.widen (k := 2) (n := 72) (Nat.le_refl _) (Nat.le_refl _) ?_
  refine va_putF (D := (dC, dI)) (ci := 0) (v := .ref q1) (ty := .array .long) (C := RX0) (T := TX0) (N := 10) hx hb hts in_X0 tyX0 tyX0_ok nmX0 hown hK hP hD hS 0 rfl rfl 3 (by decide) (hts _ q21) (fun _ h9 => h9) rfl hin rfl (by decide +kernel) rfl rfl (Nat.le_of_ble_eq_true rfl) dX0_init_22 (fun H locs hP hD hS => ?_)
  have hP : va_P (dC, dI) vwCl [(h, .inr (0, [.ref q0, .int (nI 1), .int 0, .ref q1, .null, .null, .null, .null, .null, .null])), (q0, .inl (c0, (64, .inl (fun _ => 0)))), (q1, .inl (c1, (8, .inr (.inl (fun _ => 0)))))] H := hP
  have hD : va_D A [(h, .inr (0, [.ref q0, .int (nI 1), .int 0, .ref q1, .null, .null, .null, .null, .null, .null])), (q0, .inl (c0, (64, .inl (fun _ => 0)))), (q1, .inl (c1, (8, .inr (.inl (fun _ => 0)))))] := hD
  refine lv_aload_n hx hb dX0_init_25 rfl (lv_at hl 0 rfl) ?_
  refine lv_bipush (v := nI 9) hx hb dX0_init_26 (by decide) ?_
  refine va_newa (atype := .long) (ty := .long) (a0 := (9, .inr (.inl (fun _ => 0)))) (N' := 9) hx hb (hts _ q50) rfl hK hP hD hS hA (fun _ => rfl) (by decide) (by decide) (by decide) (Nat.le_of_ble_eq_true rfl) (Nat.le_of_ble_eq_true rfl) dX0_init_28 (fun q2 c2 H hK hP hD hS => ?_)
  have hP : va_P (dC, dI) vwCl [(h, .inr (0, [.ref q0, .int (nI 1), .int 0, .ref q1, .null, .null, .null, .null, .null, .null])), (q0, .inl (c0, (64, .inl (fun _ => 0)))), (q1, .inl (c1, (8, .inr (.inl (fun _ => 0))))), (q2, .inl (c2, (9, .inr (.inl (fun _ => 0)))))] H := hP
  have hD : va_D A [(h, .inr (0, [.ref q0, .int (nI 1), .int 0, .ref q1, .null, .null, .null, .null, .null, .null])), (q0, .inl (c0, (64, .inl (fun _ => 0)))), (q1, .inl (c1, (8, .inr (.inl (fun _ => 0))))), (q2, .inl (c2, (9, .inr (.inl (fun _ => 0)))))] := hD
  have hK : va_K (dC, dI) vwCl [(c0, .int), (c1, .long), (c2, .long)] s := hK
  refine W.widen (k := 3) (n := 81) (Nat.le_refl _) (Nat.le_refl _) ?_
  refine va_putF (D := (dC, dI)) (ci := 0) (v := .ref q2) (ty := .array .long) (C := RX0) (T := TX0) (N := 10) hx hb hts in_X0 tyX0 tyX0_ok nmX0 hown hK hP hD hS 0 rfl rfl 4 (by decide) (hts _ q22) (fun _ h9 => h9) rfl hin rfl (by decide +kernel) rfl rfl (Nat.le_of_ble_eq_true rfl) dX0_init_30 (fun H locs hP hD hS => ?_)
  have hP : va_P (dC, dI) vwCl [(h, .inr (0, [.ref q0, .int (nI 1), .int 0, .ref q1, .ref q2, .null, .null, .null, .null, .null])), (q0, .inl (c0, (64, .inl (fun _ => 0)))), (q1, .inl (c1, (8, .inr (.inl (fun _ => 0))))), (q2, .inl (c2, (9, .inr (.inl (fun _ => 0)))))] H := hP
  have hD : va_D A [(h, .inr (0, [.ref q0, .int (nI 1), .int 0, .ref q1, .ref q2, .null, .null, .null, .null, .null])), (q0, .inl (c0, (64, .inl (fun _ => 0)))), (q1, .inl (c1, (8, .inr (.inl (fun _ => 0))))), (q2, .inl (c2, (9, .inr (.inl (fun _ => 0)))))] := hD
  refine lv_aload_n hx hb dX0_init_33 rfl (lv_at hl 0 rfl) ?_
  refine lv_bipush (v := nI 9) hx hb dX0_init_34 (by decide) ?_
  refine va_newa (atype := .int) (ty := .int) (a0 := (9, .inl (fun _ => 0))) (N' := 9) hx hb (hts _ q49) rfl hK hP hD hS hA (fun _ => rfl) (by decide) (by decide) (by decide) (Nat.le_of_ble_eq_true rfl) (Nat.le_of_ble_eq_true rfl) dX0_init_36 (fun q3 c3 H hK hP hD hS => ?_)
  have hP : va_P (dC, dI) vwCl [(h, .inr (0, [.ref q0, .int (nI 1), .int 0, .ref q1, .ref q2, .null, .null, .null, .null, .null])), (q0, .inl (c0, (64, .inl (fun _ => 0)))), (q1, .inl (c1, (8, .inr (.inl (fun _ => 0))))), (q2, .inl (c2, (9, .inr (.inl (fun _ => 0))))), (q3, .inl (c3, (9, .inl (fun _ => 0))))] H := hP
  have hD : va_D A [(h, .inr (0, [.ref q0, .int (nI 1), .int 0, .ref q1, .ref q2, .null, .null, .null, .null, .null])), (q0, .inl (c0, (64, .inl (fun _ => 0)))), (q1, .inl (c1, (8, .inr (.inl (fun _ => 0))))), (q2, .inl (c2, (9, .inr (.inl (fun _ => 0))))), (q3, .inl (c3, (9, .inl (fun _ => 0))))] := hD
  have hK : va_K (dC, dI) vwCl [(c0, .int), (c1, .long), (c2, .long), (c3, .int)] s := hK
  refine W.widen (k := 4) (n := 90) (Nat.le_refl _) (Nat.le_refl _) ?_
  refine va_putF (D := (dC, dI)) (ci := 0) (v := .ref q3) (ty := .array .int) (C := RX0) (T := TX0) (N := 10) hx hb hts in_X0 tyX0 tyX0_ok nmX0 hown hK hP hD hS 0 rfl rfl 5 (by decide) (hts _ q23) (fun _ h9 => h9) rfl hin rfl (by decide +kernel) rfl rfl (Nat.le_of_ble_eq_true rfl) dX0_init_38 (fun H locs hP hD hS => ?_)
  have hP : va_P (dC, dI) vwCl [(h, .inr (0, [.ref q0, .int (nI 1), .int 0, .ref q1, .ref q2, .ref q3, .null, .null, .null, .null])), (q0, .inl (c0, (64, .inl (fun _ => 0)))), (q1, .inl (c1, (8, .inr (.inl (fun _ => 0))))), (q2, .inl (c2, (9, .inr (.inl (fun _ => 0))))), (q3, .inl (c3, (9, .inl (fun _ => 0))))] H := hP
  have hD : va_D A [(h, .inr (0, [.ref q0, .int (nI 1), .int 0, .ref q1, .ref q2, .ref q3, .null, .null, .null, .null])), (q0, .inl (c0, (64, .inl (fun _ => 0)))), (q1, .inl (c1, (8, .inr (.inl (fun _ => 0))))), (q2, .inl (c2, (9, .inr (.inl (fun _ => 0))))), (q3, .inl (c3, (9, .inl (fun _ => 0))))] := hD
  refine lv_aload_n hx hb dX0_init_41 rfl (lv_at hl 0 rfl) ?_
  refine lv_bipush (v := nI 8) hx hb dX0_init_42 (by decide) ?_
  refine va_newa (atype := .int) (ty := .int) (a0 := (8, .inl (fun _ => 0))) (N' := 8) hx hb (hts _ q49) rfl hK hP hD hS hA (fun _ => rfl) (by decide) (by decide) (by decide) (Nat.le_of_ble_eq_true rfl) (Nat.le_of_ble_eq_true rfl) dX0_init_44 (fun q4 c4 H hK hP hD hS => ?_)
  have hP : va_P (dC, dI) vwCl [(h, .inr (0, [.ref q0, .int (nI 1), .int 0, .ref q1, .ref q2, .ref q3, .null, .null, .null, .null])), (q0, .inl (c0, (64, .inl (fun _ => 0)))), (q1, .inl (c1, (8, .inr (.inl (fun _ => 0))))), (q2, .inl (c2, (9, .inr (.inl (fun _ => 0))))), (q3, .inl (c3, (9, .inl (fun _ => 0)))), (q4, .inl (c4, (8, .inl (fun _ => 0))))] H := hP
  have hD : va_D A [(h, .inr (0, [.ref q0, .int (nI 1), .int 0, .ref q1, .ref q2, .ref q3, .null, .null, .null, .null])), (q0, .inl (c0, (64, .inl (fun _ => 0)))), (q1, .inl (c1, (8, .inr (.inl (fun _ => 0))))), (q2, .inl (c2, (9, .inr (.inl (fun _ => 0))))), (q3, .inl (c3, (9, .inl (fun _ => 0)))), (q4, .inl (c4, (8, .inl (fun _ => 0))))] := hD
  have hK : va_K (dC, dI) vwCl [(c0, .int), (c1, .long), (c2, .long), (c3, .int), (c4, .int)] s := hK
  refine W.widen (k := 5) (n := 98) (Nat.le_refl _) (Nat.le_refl _) ?_
  refine va_putF (D := (dC, dI)) (ci := 0) (v := .ref q4) (ty := .array .int) (C := RX0) (T := TX0) (N := 10) hx hb hts in_X0 tyX0 tyX0_ok nmX0 hown hK hP hD hS 0 rfl rfl 6 (by decide) (hts _ q24) (fun _ h9 => h9) rfl hin rfl (by decide +kernel) rfl rfl (Nat.le_of_ble_eq_true rfl) dX0_init_46 (fun H locs hP hD hS => ?_)
  have hP : va_P (dC, dI) vwCl [(h, .inr (0, [.ref q0, .int (nI 1), .int 0, .ref q1, .ref q2, .ref q3, .ref q4, .null, .null, .null])), (q0, .inl (c0, (64, .inl (fun _ => 0)))), (q1, .inl (c1, (8, .inr (.inl (fun _ => 0))))), (q2, .inl (c2, (9, .inr (.inl (fun _ => 0))))), (q3, .inl (c3, (9, .inl (fun _ => 0)))), (q4, .inl (c4, (8, .inl (fun _ => 0))))] H := hP
  have hD : va_D A [(h, .inr (0, [.ref q0, .int (nI 1), .int 0, .ref q1, .ref q2, .ref q3, .ref q4, .null, .null, .null])), (q0, .inl (c0, (64, .inl (fun _ => 0)))), (q1, .inl (c1, (8, .inr (.inl (fun _ => 0))))), (q2, .inl (c2, (9, .inr (.inl (fun _ => 0))))), (q3, .inl (c3, (9, .inl (fun _ => 0)))), (q4, .inl (c4, (8, .inl (fun _ => 0))))] := hD
  refine lv_aload_n hx hb dX0_init_49 rfl (lv_at hl 0 rfl) ?_
  refine lv_bipush (v := nI 8) hx hb dX0_init_50 (by decide) ?_
  refine va_newa (atype := .long) (ty := .long) (a0 := (8, .inr (.inl (fun _ => 0)))) (N' := 8) hx hb (hts _ q50) rfl hK hP hD hS hA (fun _ => rfl) (by decide) (by decide) (by decide) (Nat.le_of_ble_eq_true rfl) (Nat.le_of_ble_eq_true rfl) dX0_init_52 (fun q5 c5 H hK hP hD hS => ?_)
  have hP : va_P (dC, dI) vwCl [(h, .inr (0, [.ref q0, .int (nI 1), .int 0, .ref q1, .ref q2, .ref q3, .ref q4, .null, .null, .null])), (q0, .inl (c0, (64, .inl (fun _ => 0)))), (q1, .inl (c1, (8, .inr (.inl (fun _ => 0))))), (q2, .inl (c2, (9, .inr (.inl (fun _ => 0))))), (q3, .inl (c3, (9, .inl (fun _ => 0)))), (q4, .inl (c4, (8, .inl (fun _ => 0)))), (q5, .inl (c5, (8, .inr (.inl (fun _ => 0)))))] H := hP
  have hD : va_D A [(h, .inr (0, [.ref q0, .int (nI 1), .int 0, .ref q1, .ref q2, .ref q3, .ref q4, .null, .null, .null])), (q0, .inl (c0, (64, .inl (fun _ => 0)))), (q1, .inl (c1, (8, .inr (.inl (fun _ => 0))))), (q2, .inl (c2, (9, .inr (.inl (fun _ => 0))))), (q3, .inl (c3, (9, .inl (fun _ => 0)))), (q4, .inl (c4, (8, .inl (fun _ => 0)))), (q5, .inl (c5, (8, .inr (.inl (fun _ => 0)))))] := hD
  have hK : va_K (dC, dI) vwCl [(c0, .int), (c1, .long), (c2, .long), (c3, .int), (c4, .int), (c5, .long)] s := hK
  refine W.widen (k := 6) (n := 106) (Nat.le_refl _) (Nat.le_refl _) ?_
  refine va_putF (D := (dC, dI)) (ci := 0) (v := .ref q5) (ty := .array .long) (C := RX0) (T := TX0) (N := 10) hx hb hts in_X0 tyX0 tyX0_ok nmX0 hown hK hP hD hS 0 rfl rfl 7 (by decide) (hts _ q25) (fun _ h9 => h9) rfl hin rfl (by decide +kernel) rfl rfl (Nat.le_of_ble_eq_true rfl) dX0_init_54 (fun H locs hP hD hS => ?_)
  have hP : va_P (dC, dI) vwCl [(h, .inr (0, [.ref q0, .int (nI 1), .int 0, .ref q1, .ref q2, .ref q3, .ref q4, .ref q5, .null, .null])), (q0, .inl (c0, (64, .inl (fun _ => 0)))), (q1, .inl (c1, (8, .inr (.inl (fun _ => 0))))), (q2, .inl (c2, (9, .inr (.inl (fun _ => 0))))), (q3, .inl (c3, (9, .inl (fun _ => 0)))), (q4, .inl (c4, (8, .inl (fun _ => 0)))), (q5, .inl (c5, (8, .inr (.inl (fun _ => 0)))))] H := hP
  have hD : va_D A [(h, .inr (0, [.ref q0, .int (nI 1), .int 0, .ref q1, .ref q2, .ref q3, .ref q4, .ref q5, .null, .null])), (q0, .inl (c0, (64, .inl (fun _ => 0)))), (q1, .inl (c1, (8, .inr (.inl (fun _ => 0))))), (q2, .inl (c2, (9, .inr (.inl (fun _ => 0))))), (q3, .inl (c3, (9, .inl (fun _ => 0)))), (q4, .inl (c4, (8, .inl (fun _ => 0)))), (q5, .inl (c5, (8, .inr (.inl (fun _ => 0)))))] := hD
  refine lv_aload_n hx hb dX0_init_57 rfl (lv_at hl 0 rfl) ?_
  refine lv_bipush (v := nI 8) hx hb dX0_init_58 (by decide) ?_
  refine va_newa (atype := .int) (ty := .int) (a0 := (8, .inl (fun _ => 0))) (N' := 8) hx hb (hts _ q49) rfl hK hP hD hS hA (fun _ => rfl) (by decide) (by decide) (by decide) (Nat.le_of_ble_eq_true rfl) (Nat.le_of_ble_eq_true rfl) dX0_init_60 (fun q6 c6 H hK hP hD hS => ?_)
  have hP : va_P (dC, dI) vwCl [(h, .inr (0, [.ref q0, .int (nI 1), .int 0, .ref q1, .ref q2, .ref q3, .ref q4, .ref q5, .null, .null])), (q0, .inl (c0, (64, .inl (fun _ => 0)))), (q1, .inl (c1, (8, .inr (.inl (fun _ => 0))))), (q2, .inl (c2, (9, .inr (.inl (fun _ => 0))))), (q3, .inl (c3, (9, .inl (fun _ => 0)))), (q4, .inl (c4, (8, .inl (fun _ => 0)))), (q5, .inl (c5, (8, .inr (.inl (fun _ => 0))))), (q6, .inl (c6, (8, .inl (fun _ => 0))))] H := hP
  have hD : va_D A [(h, .inr (0, [.ref q0, .int (nI 1), .int 0, .ref q1, .ref q2, .ref q3, .ref q4, .ref q5, .null, .null])), (q0, .inl (c0, (64, .inl (fun _ => 0)))), (q1, .inl (c1, (8, .inr (.inl (fun _ => 0))))), (q2, .inl (c2, (9, .inr (.inl (fun _ => 0))))), (q3, .inl (c3, (9, .inl (fun _ => 0)))), (q4, .inl (c4, (8, .inl (fun _ => 0)))), (q5, .inl (c5, (8, .inr (.inl (fun _ => 0))))), (q6, .inl (c6, (8, .inl (fun _ => 0))))] := hD
  have hK : va_K (dC, dI) vwCl [(c0, .int), (c1, .long), (c2, .long), (c3, .int), (c4, .int), (c5, .long), (c6, .int)] s := hK
  refine W.widen (k := 7) (n := 114) (Nat.le_refl _) (Nat.le_refl _) ?_
  refine va_putF (D := (dC, dI)) (ci := 0) (v := .ref q6) (ty := .array .int) (C := RX0) (T := TX0) (N := 10) hx hb hts in_X0 tyX0 tyX0_ok nmX0 hown hK hP hD hS 0 rfl rfl 8 (by decide) (hts _ q26) (fun _ h9 => h9) rfl hin rfl (by decide +kernel) rfl rfl (Nat.le_of_ble_eq_true rfl) dX0_init_62 (fun H locs hP hD hS => ?_)
  have hP : va_P (dC, dI) vwCl [(h, .inr (0, [.ref q0, .int (nI 1), .int 0, .ref q1, .ref q2, .ref q3, .ref q4, .ref q5, .ref q6, .null])), (q0, .inl (c0, (64, .inl (fun _ => 0)))), (q1, .inl (c1, (8, .inr (.inl (fun _ => 0))))), (q2, .inl (c2, (9, .inr (.inl (fun _ => 0))))), (q3, .inl (c3, (9, .inl (fun _ => 0)))), (q4, .inl (c4, (8, .inl (fun _ => 0)))), (q5, .inl (c5, (8, .inr (.inl (fun _ => 0))))), (q6, .inl (c6, (8, .inl (fun _ => 0))))] H := hP
  have hD : va_D A [(h, .inr (0, [.ref q0, .int (nI 1), .int 0, .ref q1, .ref q2, .ref q3, .ref q4, .ref q5, .ref q6, .null])), (q0, .inl (c0, (64, .inl (fun _ => 0)))), (q1, .inl (c1, (8, .inr (.inl (fun _ => 0))))), (q2, .inl (c2, (9, .inr (.inl (fun _ => 0))))), (q3, .inl (c3, (9, .inl (fun _ => 0)))), (q4, .inl (c4, (8, .inl (fun _ => 0)))), (q5, .inl (c5, (8, .inr (.inl (fun _ => 0))))), (q6, .inl (c6, (8, .inl (fun _ => 0))))] := hD
  refine lv_aload_n hx hb dX0_init_65 rfl (lv_at hl 0 rfl) ?_
  refine lv_bipush (v := nI 9) hx hb dX0_init_66 (by decide) ?_
  refine va_newa (atype := .boolean) (ty := .boolean) (a0 := (9, .inl (fun _ => 0))) (N' := 9) hx hb (hts _ q51) rfl hK hP hD hS hA (fun _ => rfl) (by decide) (by decide) (by decide) (Nat.le_of_ble_eq_true rfl) (Nat.le_of_ble_eq_true rfl) dX0_init_68 (fun q7 c7 H hK hP hD hS => ?_)
  have hP : va_P (dC, dI) vwCl [(h, .inr (0, [.ref q0, .int (nI 1), .int 0, .ref q1, .ref q2, .ref q3, .ref q4, .ref q5, .ref q6, .null])), (q0, .inl (c0, (64, .inl (fun _ => 0)))), (q1, .inl (c1, (8, .inr (.inl (fun _ => 0))))), (q2, .inl (c2, (9, .inr (.inl (fun _ => 0))))), (q3, .inl (c3, (9, .inl (fun _ => 0)))), (q4, .inl (c4, (8, .inl (fun _ => 0)))), (q5, .inl (c5, (8, .inr (.inl (fun _ => 0))))), (q6, .inl (c6, (8, .inl (fun _ => 0)))), (q7, .inl (c7, (9, .inl (fun _ => 0))))] H := hP
  have hD : va_D A [(h, .inr (0, [.ref q0, .int (nI 1), .int 0, .ref q1, .ref q2, .ref q3, .ref q4, .ref q5, .ref q6, .null])), (q0, .inl (c0, (64, .inl (fun _ => 0)))), (q1, .inl (c1, (8, .inr (.inl (fun _ => 0))))), (q2, .inl (c2, (9, .inr (.inl (fun _ => 0))))), (q3, .inl (c3, (9, .inl (fun _ => 0)))), (q4, .inl (c4, (8, .inl (fun _ => 0)))), (q5, .inl (c5, (8, .inr (.inl (fun _ => 0))))), (q6, .inl (c6, (8, .inl (fun _ => 0)))), (q7, .inl (c7, (9, .inl (fun _ => 0))))] := hD
  have hK : va_K (dC, dI) vwCl [(c0, .int), (c1, .long), (c2, .long), (c3, .int), (c4, .int), (c5, .long), (c6, .int), (c7, .boolean)] s := hK
  refine W.widen (k := 8) (n := 123) (Nat.le_refl _) (Nat.le_refl _) ?_
  refine va_putF (D := (dC, dI)) (ci := 0) (v := .ref q7) (ty := .array .boolean) (C := RX0) (T := TX0) (N := 10) hx hb hts in_X0 tyX0 tyX0_ok nmX0 hown hK hP hD hS 0 rfl rfl 9 (by decide) (hts _ q27) (fun _ h9 => h9) rfl hin rfl (by decide +kernel) rfl rfl (Nat.le_of_ble_eq_true rfl) dX0_init_70 (fun H locs hP hD hS => ?_)
  have hP : va_P (dC, dI) vwCl [(h, .inr (0, [.ref q0, .int (nI 1), .int 0, .ref q1, .ref q2, .ref q3, .ref q4, .ref q5, .ref q6, .ref q7])), (q0, .inl (c0, (64, .inl (fun _ => 0)))), (q1, .inl (c1, (8, .inr (.inl (fun _ => 0))))), (q2, .inl (c2, (9, .inr (.inl (fun _ => 0))))), (q3, .inl (c3, (9, .inl (fun _ => 0)))), (q4, .inl (c4, (8, .inl (fun _ => 0)))), (q5, .inl (c5, (8, .inr (.inl (fun _ => 0))))), (q6, .inl (c6, (8, .inl (fun _ => 0)))), (q7, .inl (c7, (9, .inl (fun _ => 0))))] H := hP
  have hD : va_D A [(h, .inr (0, [.ref q0, .int (nI 1), .int 0, .ref q1, .ref q2, .ref q3, .ref q4, .ref q5, .ref q6, .ref q7])), (q0, .inl (c0, (64, .inl (fun _ => 0)))), (q1, .inl (c1, (8, .inr (.inl (fun _ => 0))))), (q2, .inl (c2, (9, .inr (.inl (fun _ => 0))))), (q3, .inl (c3, (9, .inl (fun _ => 0)))), (q4, .inl (c4, (8, .inl (fun _ => 0)))), (q5, .inl (c5, (8, .inr (.inl (fun _ => 0))))), (q6, .inl (c6, (8, .inl (fun _ => 0)))), (q7, .inl (c7, (9, .inl (fun _ => 0))))] := hD
  exact W.vret hx hb hr (fun t ht hW => ⟨⟨(fun k => match k with | 0 => q0 | 1 => q1 | 2 => q2 | 3 => q3 | 4 => q4 | 5 => q5 | 6 => q6 | _ => q7, fun k => match k with | 0 => c0 | 1 => c1 | 2 => c2 | 3 => c3 | 4 => c4 | 5 => c5 | 6 => c6 | _ => c7), rfl, trivial, by rw [ht]; exact hP, va_K.moved hW.alike hK, hD⟩, hS.F ht⟩) hS.2.2 dX0_init_73
set_option maxHeartbeats 4000000 in
set_option maxRecDepth 100000 in
theorem met_minit (l : Launch) (dC : Nat → ClassId) (dI : Nat → Nat → Nat) (h : Nat) (sz : Nat) : Met l yX1_init (ws_ yX1_init cX1_init 1 none) ({ frames := 1, cells := 3, slots := 328, locals := 12 } : Room) (va_Pc [.ref h] (pdPre dC dI [] sz [(h, .inr (1, [.null, .int 0, .null, .null, .int 0]))])) (va_Qv (fun (_ : (Nat → Nat) × (Nat → ClassId)) => True) (fun g t => va_P (dC, dI) vwCl (pmW h g.1 g.2 (nI 1) 0 (fun _ => 0) (fun _ => 0) (fun _ => 0)) t.heap ∧ va_K (dC, dI) vwCl (pmT g.2) t ∧ va_D (va_A [(h, .inr (1, [.null, .int 0, .null, .null, .int 0]))] sz) (pmW h g.1 g.2 (nI 1) 0 (fun _ => 0) (fun _ => 0) (fun _ => 0))) (va_A [(h, .inr (1, [.null, .int 0, .null, .null, .int 0]))] sz)) 3 328 (va_A [(h, .inr (1, [.null, .int 0, .null, .null, .int 0]))] sz) := by
  refine Met.ofW (cc := cX1_init) (maxL := 1) (ret := none) (by decide) rfl ?_
  intro p e s m args below meth c s₁ B hml hv
  obtain ⟨rfl, hsz, hP, hK, hD0⟩ := hv
  have hx := B.exec
  have hb := B.bytes
  have hr := B.returns
  have hts0 := atoms_spec (ws := ws_ yX1_init cX1_init 1 none) B.pre
  have hts : ∀ w ∈ lw_all, w.before _ s = true := fun w h => hts0 w (List.mem_cons_of_mem _ h)
  have hown : s.vm.findClass RX1 = some m.cls := findClass_of_methodNamed B.named
  have hlocks := B.notSynchronized
  have S : CallFix p m c cX1_init 1 s ([.ref h] : List Value).toArray lw_all RX1 := ⟨hx, hb, hml, hown, hts⟩
  subst hsz
  have hD := hD0.self (sz := s.heap.size)
  generalize hAe : va_A ([(h, .inr (1, [.null, .int 0, .null, .null, .int 0]))]) s.heap.size = A at hD ⊢
  have hA : ∀ q : Nat, s.heap.size ≤ q → A q := fun q h => by rw [← hAe]; exact Or.inr h
  have hS : va_S A s.heap s.heap [] := va_S.rf
  have hl := lv_entry ([.ref h]) (n := 1) (Nat.le_of_ble_eq_true rfl)
  rw [lg_entry_eq]
  generalize (lg_sl ([.ref h]) ++ List.replicate (1 - (lg_sl ([.ref h])).length) Slot.unset).toArray = ls at hl ⊢
  have hl : lv_has ls 1 [(0, .ref h)] := hl
  have hin : meth.name = "<init>" := (name_of_methodNamed B.named B.method).1
  refine lv_aload_n hx hb dX1_init_0 rfl (lv_at hl 0 rfl) ?_
  refine W.objInit hx hb hown (hts _ q105) (hts _ q16) (hts _ q17) rfl (by rw [hml]; exact hl.1) rfl dX1_init_1 (Nat.le_of_ble_eq_true rfl) (Nat.le_of_ble_eq_true rfl) ?_
  refine W.eq (g2 := F0 m 4 ls []) rfl ?_
  refine lv_aload_n hx hb dX1_init_4 rfl (lv_at hl 0 rfl) ?_
  refine lv_bipush (v := nI 64) hx hb dX1_init_5 (by decide) ?_
  refine va_newa (atype := .int) (ty := .int) (a0 := (64, .inl (fun _ => 0))) (N' := 64) hx hb (hts _ q49) rfl hK hP hD hS hA (fun _ => rfl) (by decide) (by decide) (by decide) (Nat.le_of_ble_eq_true rfl) (Nat.le_of_ble_eq_true rfl) dX1_init_7 (fun q0 c0 H hK hP hD hS => ?_)
  have hP : va_P (dC, dI) vwCl [(h, .inr (1, [.null, .int 0, .null, .null, .int 0])), (q0, .inl (c0, (64, .inl (fun _ => 0))))] H := hP
  have hD : va_D A [(h, .inr (1, [.null, .int 0, .null, .null, .int 0])), (q0, .inl (c0, (64, .inl (fun _ => 0))))] := hD
  have hK : va_K (dC, dI) vwCl [(c0, .int)] s := hK
  refine W.widen (k := 1) (n := 64) (Nat.le_refl _) (Nat.le_refl _) ?_
  refine va_putF (D := (dC, dI)) (ci := 1) (v := .ref q0) (ty := .array .int) (C := RX1) (T := TX1) (N := 5) hx hb hts in_X1 tyX1 tyX1_ok nmX1 hown hK hP hD hS 0 rfl rfl 0 (by decide) (hts _ q106) (fun _ h9 => h9) rfl hin rfl (by decide +kernel) rfl rfl (Nat.le_of_ble_eq_true rfl) dX1_init_9 (fun H locs hP hD hS => ?_)
  have hP : va_P (dC, dI) vwCl [(h, .inr (1, [.ref q0, .int 0, .null, .null, .int 0])), (q0, .inl (c0, (64, .inl (fun _ => 0))))] H := hP
  have hD : va_D A [(h, .inr (1, [.ref q0, .int 0, .null, .null, .int 0])), (q0, .inl (c0, (64, .inl (fun _ => 0))))] := hD
  refine lv_aload_n hx hb dX1_init_12 rfl (lv_at hl 0 rfl) ?_
  refine lv_iconst (v := nI 1) hx hb dX1_init_13 (by decide) ?_
  refine va_put (D := (dC, dI)) (ci := 1) (v := .int (nI 1)) (ty := .int) (C := RX1) (T := TX1) (N := 5) hx hb hts in_X1 tyX1 tyX1_ok nmX1 hown hK hP hD hS 0 rfl rfl 1 (by decide) (hts _ q107) (fun _ h9 => h9) rfl (by decide +kernel) rfl rfl (Nat.le_of_ble_eq_true rfl) dX1_init_14 (fun H locs hP hD hS => ?_)
  have hP : va_P (dC, dI) vwCl [(h, .inr (1, [.ref q0, .int (nI 1), .null, .null, .int 0])), (q0, .inl (c0, (64, .inl (fun _ => 0))))] H := hP
  have hD : va_D A [(h, .inr (1, [.ref q0, .int (nI 1), .null, .null, .int 0])), (q0, .inl (c0, (64, .inl (fun _ => 0))))] := hD
  refine lv_aload_n hx hb dX1_init_17 rfl (lv_at hl 0 rfl) ?_
  refine lv_sipush (v := nI 256) hx hb dX1_init_18 (by decide) ?_
  refine va_newa (atype := .long) (ty := .long) (a0 := (256, .inr (.inl (fun _ => 0)))) (N' := 256) hx hb (hts _ q50) rfl hK hP hD hS hA (fun _ => rfl) (by decide) (by decide) (by decide) (Nat.le_of_ble_eq_true rfl) (Nat.le_of_ble_eq_true rfl) dX1_init_21 (fun q1 c1 H hK hP hD hS => ?_)
  have hP : va_P (dC, dI) vwCl [(h, .inr (1, [.ref q0, .int (nI 1), .null, .null, .int 0])), (q0, .inl (c0, (64, .inl (fun _ => 0)))), (q1, .inl (c1, (256, .inr (.inl (fun _ => 0)))))] H := hP
  have hD : va_D A [(h, .inr (1, [.ref q0, .int (nI 1), .null, .null, .int 0])), (q0, .inl (c0, (64, .inl (fun _ => 0)))), (q1, .inl (c1, (256, .inr (.inl (fun _ => 0)))))] := hD
  have hK : va_K (dC, dI) vwCl [(c0, .int), (c1, .long)] s := hK
  refine W.widen (k := 2) (n := 320) (Nat.le_refl _) (Nat.le_refl _) ?_
  refine va_putF (D := (dC, dI)) (ci := 1) (v := .ref q1) (ty := .array .long) (C := RX1) (T := TX1) (N := 5) hx hb hts in_X1 tyX1 tyX1_ok nmX1 hown hK hP hD hS 0 rfl rfl 2 (by decide) (hts _ q108) (fun _ h9 => h9) rfl hin rfl (by decide +kernel) rfl rfl (Nat.le_of_ble_eq_true rfl) dX1_init_23 (fun H locs hP hD hS => ?_)
  have hP : va_P (dC, dI) vwCl [(h, .inr (1, [.ref q0, .int (nI 1), .ref q1, .null, .int 0])), (q0, .inl (c0, (64, .inl (fun _ => 0)))), (q1, .inl (c1, (256, .inr (.inl (fun _ => 0)))))] H := hP
  have hD : va_D A [(h, .inr (1, [.ref q0, .int (nI 1), .ref q1, .null, .int 0])), (q0, .inl (c0, (64, .inl (fun _ => 0)))), (q1, .inl (c1, (256, .inr (.inl (fun _ => 0)))))] := hD
  refine lv_aload_n hx hb dX1_init_26 rfl (lv_at hl 0 rfl) ?_
  refine lv_bipush (v := nI 8) hx hb dX1_init_27 (by decide) ?_
  refine va_newa (atype := .int) (ty := .int) (a0 := (8, .inl (fun _ => 0))) (N' := 8) hx hb (hts _ q49) rfl hK hP hD hS hA (fun _ => rfl) (by decide) (by decide) (by decide) (Nat.le_of_ble_eq_true rfl) (Nat.le_of_ble_eq_true rfl) dX1_init_29 (fun q2 c2 H hK hP hD hS => ?_)
  have hP : va_P (dC, dI) vwCl [(h, .inr (1, [.ref q0, .int (nI 1), .ref q1, .null, .int 0])), (q0, .inl (c0, (64, .inl (fun _ => 0)))), (q1, .inl (c1, (256, .inr (.inl (fun _ => 0))))), (q2, .inl (c2, (8, .inl (fun _ => 0))))] H := hP
  have hD : va_D A [(h, .inr (1, [.ref q0, .int (nI 1), .ref q1, .null, .int 0])), (q0, .inl (c0, (64, .inl (fun _ => 0)))), (q1, .inl (c1, (256, .inr (.inl (fun _ => 0))))), (q2, .inl (c2, (8, .inl (fun _ => 0))))] := hD
  have hK : va_K (dC, dI) vwCl [(c0, .int), (c1, .long), (c2, .int)] s := hK
  refine W.widen (k := 3) (n := 328) (Nat.le_refl _) (Nat.le_refl _) ?_
  refine va_putF (D := (dC, dI)) (ci := 1) (v := .ref q2) (ty := .array .int) (C := RX1) (T := TX1) (N := 5) hx hb hts in_X1 tyX1 tyX1_ok nmX1 hown hK hP hD hS 0 rfl rfl 3 (by decide) (hts _ q109) (fun _ h9 => h9) rfl hin rfl (by decide +kernel) rfl rfl (Nat.le_of_ble_eq_true rfl) dX1_init_31 (fun H locs hP hD hS => ?_)
  have hP : va_P (dC, dI) vwCl [(h, .inr (1, [.ref q0, .int (nI 1), .ref q1, .ref q2, .int 0])), (q0, .inl (c0, (64, .inl (fun _ => 0)))), (q1, .inl (c1, (256, .inr (.inl (fun _ => 0))))), (q2, .inl (c2, (8, .inl (fun _ => 0))))] H := hP
  have hD : va_D A [(h, .inr (1, [.ref q0, .int (nI 1), .ref q1, .ref q2, .int 0])), (q0, .inl (c0, (64, .inl (fun _ => 0)))), (q1, .inl (c1, (256, .inr (.inl (fun _ => 0))))), (q2, .inl (c2, (8, .inl (fun _ => 0))))] := hD
  exact W.vret hx hb hr (fun t ht hW => ⟨⟨(fun k => match k with | 0 => q0 | 1 => q1 | _ => q2, fun k => match k with | 0 => c0 | 1 => c1 | _ => c2), rfl, trivial, by rw [ht]; exact hP, va_K.moved hW.alike hK, hD⟩, hS.F ht⟩) hS.2.2 dX1_init_34
end
section
set_option maxRecDepth 100000
/-! THE CLAIM OUT OF ONE WALK OF THE LAW'S BODY. Your part is whole_start (and what it stands on); all else here is the same for every law, but numbers. -/
def R_law : String := "PairDeskLaw"
def lw_P (b : Addr) (xs : List Int32) (args : Array Value) (s : State) : Prop := args = #[.ref b] ∧ s.IntsAt b xs ∧ xs.length ≤ 384 ∧ (Jvm.Cond.and given_1 narrow_1).before args s = true
def lw_Q (_ : Array Value) (s : State) (o : Outcome) (t : State) : Prop := o = .returned (some (.int 1)) ∧ Framed s o t [] 600000 7302250
def lw_Z (below : List Frame) (a : Array Value) (s : State) : State → Prop := fun t => ∃ o, t.status = .running ∧ Ended t below o ∧ lw_Q a s o t
/-- the law's own end, with 1 on the stack, nothing written that was there before, its room as the claim has it -/
theorem lw_ret {p : Program} {l : Launch} {e : Env} {s : State} {m : MethodId} {below : List Frame} {meth : Method} {c : Code} {b : Nat} (hx : p.tables.exec = Jvm.exec) (hb : c.code = code) (hr : meth.sig.returnType = ret) (hlocks : meth.locks = false) {pc : Nat} {H : Heap} {ls : Array Slot} (hdg : decode code pc = .ok (.ireturn, 1)) : W p l e room_1 s m #[Value.ref b] below meth c H [] 600000 7302250 (lw_Z below #[Value.ref b] s) (F0 m pc ls [.int 1]) := by
  intro T hT X
  obtain ⟨fs, hret, hrun, hended, hW, hframe⟩ := X.leave (v := some (.int 1)) (hlocks := hlocks) (fun h => by rw [hr] at h; cases h)
  have hmeth' : T.vm.method? m = some meth := X.method'
  refine ⟨T.setFrames fs, ?_, .returned (some (.int 1)), hrun, hended, rfl, ⟨_, rfl⟩, hW, hframe⟩
  jvm_step X.here [X.here.top, hx, hb, hdg, hmeth', hr, ret, narrow_b1]
  (try refine ⟨rfl, ?_⟩); (try refine ⟨rfl, ?_⟩)
  first | (intro acts; rw [hret _ acts rfl rfl rfl]) | rw [hret _ _ rfl rfl rfl]
  exact Steps.refl _
/-- what holds at the law's entry: the machine, the code, the tables' words (any of lw_tbl by 'hts w (by decide +kernel)'), the script of L ints xs at the cell b, what the Statement gives of the start (any of its parts by flat_of_before) -/
def lw_At (p : Program) (s : State) (m : MethodId) (meth : Method) (c : Code) (b L : Nat) (xs : Nat → Int32) : Prop :=
  p.tables.exec = Jvm.exec ∧ c.code = code ∧ meth.sig.returnType = ret ∧ c.maxLocals = 4 ∧ s.vm.findClass R_law = some m.cls ∧ (∀ w ∈ lw_tbl, w.before #[Value.ref b] s = true) ∧ va_X b L xs s s.heap ∧ b < s.heap.size ∧ meth.locks = false ∧ (Jvm.Cond.and given_1 narrow_1).before #[Value.ref b] s = true
end
section
/-! the law: its loop -/
set_option maxRecDepth 100000
theorem lp_set {n i j : Nat} {a b : Nat → Int32} {x : Int32} (hn : n ≤ 8) (hj : j < 8) (h : ∀ r c, r < n → c < n → a (8 * r + c) = b (8 * r + c)) : ∀ r c, r < n → c < n → pd_set n a i j x (8 * r + c) = upd b (8 * i + j) x (8 * r + c) := by
  intro r c hr hc
  unfold pd_set
  by_cases e : 8 * r + c = 8 * i + j
  · have e2 : c = j := by omega
    rw [if_pos (by omega), e, pk_us, pk_us]
  · rw [pk_un e]
    by_cases q : j < n
    · rw [if_pos q, pk_un e]
      exact h r c hr hc
    · rw [if_neg q]
      exact h r c hr hc
theorem lp_cost {n : Nat} {a b : Nat → Int32} (k x1 x2 x3 x4 : Int32) (hn : n ≤ 8) (h : ∀ r c, r < n → c < n → a (8 * r + c) = b (8 * r + c)) : ∀ r c, r < n → c < n → pd_cs n a k x1 x2 x3 x4 (8 * r + c) = pm_cs n b k x1 x2 x3 x4 (8 * r + c) := by
  have hf := pd_fi_in k
  unfold pd_cs pm_cs
  exact lp_set hn (by omega) (lp_set hn (by omega) (lp_set hn (by omega) (lp_set hn (by omega) h)))
/-- what the two sides have in common -/
def lp_J (n : Nat) (rk : Int32) (co cl : Nat → Int32) (mk : Int32) (co2 gv : Nat → Int32) : Prop := 0 < n ∧ n ≤ 8 ∧ (∀ r c, r < n → c < n → co (8 * r + c) = co2 (8 * r + c)) ∧ ((rk = 0 ∧ mk = 0) ∨ (rk = 1 ∧ mk = 1 ∧ ∀ r, r < n → cl r = gv r))
theorem lp_least {n : Nat} {co co2 : Nat → Int32} {f g : Nat → Nat} {x y : Int64} (h : ∀ r c, r < n → c < n → co (8 * r + c) = co2 (8 * r + c)) (hf : pd_lex (pd_C co) n f) (hg : pd_lex (pd_C co2) n g) (hx : x.toInt = pd_cost (pd_C co) n f) (hy : y.toInt = pd_cost (pd_C co2) n g) : x = y ∧ ∀ r, r < n → f r = g r := by
  have hC : ∀ r c, r < n → c < n → pd_C co r c = pd_C co2 r c := fun r c hr hc => by
    unfold pd_C
    rw [h r c hr hc]
  have hf2 := pd_lex_congr hC hf
  refine ⟨Int64.toInt_inj.mp ?_, pd_lex_uniq hf2 hg⟩
  rw [hx, hy, pd_cost_congr hC hf.1.1]
  exact pd_opt_cost hf2.1 hg.1
theorem lp_given {n : Nat} {rk mk : Int32} {co cl co2 gv : Nat → Int32} (h : lp_J n rk co cl mk co2 gv) (k : Int32) : (if rk = 0 then -1 else cl (pd_gi k n)) = (if mk = 0 then -1 else gv (pd_gi k n)) := by
  rcases h.2.2.2 with ⟨h1, h2⟩ | ⟨h1, h2, h3⟩
  · rw [if_pos h1, if_pos h2]
  · rw [if_neg (by rw [h1]; decide), if_neg (by rw [h2]; decide)]
    exact h3 _ (pd_gi_lt k h.1)
section LAWR
variable {p : Program} {l : Launch} {e : Env} {R : Room} {s : State} {m : MethodId} {args : Array Value} {below : List Frame} {meth : Method} {c : Code} {H : Heap} {locs : List Loc} {cells slots : Nat} {Q : State → Prop} {cc : ByteArray} {pc : Nat} {ls : Array Slot} {rest : List Value} {A : Nat → Prop}
theorem lp_sld (hx : p.tables.exec = Jvm.exec) (hb : c.code = cc) {b L : Nat} {xs : Nat → Int32} (hX : va_X b L xs s s.heap) (hbl : b < s.heap.size) (hbA : ¬ A b) (hS : va_S A s.heap H locs) {i : Nat} (hi : i < L) (hL : L ≤ 384) (hdg : decode cc pc = .ok (.iaload, 1))
    (kk : W p l e R s m args below meth c H locs cells slots Q (F0 m (pc + 1) ls (.int (xs i) :: rest))) : W p l e R s m args below meth c H locs cells slots Q (F0 m pc ls (.int (nI i) :: .ref b :: rest)) := by
  refine va_sld hx hb hX hbl hbA hS (vp_in_nI hi (by omega)) hdg ?_
  rw [nI_clamp (by omega)]
  exact kk
end LAWR
set_option maxHeartbeats 4000000 in
set_option maxRecDepth 100000 in
theorem law_loop {p : Program} {l : Launch} {e : Env} {s : State} {m : MethodId} {below : List Frame} {meth : Method} {c : Code} {b L : Nat} {xs : Nat → Int32} {dC : Nat → ClassId} {dI : Nat → Nat → Nat} {A : Nat → Prop} {h h2 : Nat} {ad ad2 : Nat → Nat} {cs cs2 : Nat → ClassId} (hL : L ≤ 384) (C0 : lw_At p s m meth c b L xs) (hA : ∀ q : Nat, s.heap.size ≤ q → A q) (hbA : ¬ A b) (hAf : ∀ q : Nat, A q → s.heap.size ≤ q) (hKd : va_K (dC, dI) vwCl (pdT cs) s) (hKm : va_K (dC, dI) vwCl (pmT cs2) s) :
    ∀ (j i n : Nat) (rk : Int32) (co : Nat → Int32) (u v : Nat → Int64) (ro cl : Nat → Int32) (wy : Nat → Int64) (be dn : Nat → Int32) (mk : Int32) (co2 : Nat → Int32) (bs : Nat → Int64) (gv : Nat → Int32) (H : Heap) (locs : List Loc) (ls : Array Slot), L < i + j → i ≤ L + 6 → lp_J n rk co cl mk co2 gv → va_P (dC, dI) vwCl (pdW h ad cs (nI n) rk co u v ro cl wy be dn) H → va_P (dC, dI) vwCl (pmW h2 ad2 cs2 (nI n) mk co2 bs gv) H → va_D A (pdW h ad cs (nI n) rk co u v ro cl wy be dn ++ pmW h2 ad2 cs2 (nI n) mk co2 bs gv) → va_S A s.heap H locs → lv_has ls 4 [(0, .ref b), (1, .ref h), (2, .ref h2), (3, .int (nI i))] → W p l e room_1 s m #[Value.ref b] below meth c H locs 600000 7302250 (lw_Z below #[Value.ref b] s) (F0 m 18 ls []) := by
  obtain ⟨hx, hb, hr, hml, hown, hts0, hX, hbl, hlocks, hgv0⟩ := id C0
  have hts : ∀ w ∈ lw_all, w.before #[Value.ref b] s = true := fun w hw => hts0 w (lw_all_tbl hw)
  have S : CallFix p m c code 4 s #[Value.ref b] lw_all R_law := ⟨hx, hb, hml, hown, hts⟩
  have hf : (600000 : Nat) ≤ room_1.cells ∧ (7302250 : Nat) ≤ room_1.slots := ⟨Nat.le_refl _, Nat.le_refl _⟩
  intro j
  induction j with
  | zero =>
    intro i n rk co u v ro cl wy be dn mk co2 bs gv H locs ls hj hi hJ hP hPm hD hS hl
    refine lv_iload_n hx hb dL_law_18 rfl (lv_at hl 3 rfl) ?_
    refine lv_aload_n hx hb dL_law_19 rfl (lv_at hl 0 rfl) ?_
    refine va_slen hx hb hX hbl hbA hS dL_law_20 ?_
    refine lv_bipush (v := nI 6) hx hb dL_law_21 (by decide) ?_
    refine lv_isub hx hb dL_law_23 ?_
    refine lv_icmp_gt (tgt := 189) hx hb dL_law_24 (by decide) (fun q => ?_) (fun q => ?_)
    · refine lv_iconst (v := 1) hx hb dL_law_189 (by decide) ?_
      refine va_forget (fun q hq => hAf _ (hS.2.2 q hq)) ?_
      exact lw_ret hx hb hr hlocks dL_law_190
    · have hiL : i + 6 ≤ L := by
        have h1 := pk_sub_toInt (a := L) (b := 6) (by omega) (by omega)
        have h2 := nI_toInt (n := i) (by omega)
        have h3 : ¬ ((nI L - nI 6).toInt < (nI i).toInt) := fun z => q (Int32.lt_iff_toInt_lt.mpr z)
        omega
      omega
  | succ j ih =>
    intro i n rk co u v ro cl wy be dn mk co2 bs gv H locs ls hj hi hJ hP hPm hD hS hl
    refine lv_iload_n hx hb dL_law_18 rfl (lv_at hl 3 rfl) ?_
    refine lv_aload_n hx hb dL_law_19 rfl (lv_at hl 0 rfl) ?_
    refine va_slen hx hb hX hbl hbA hS dL_law_20 ?_
    refine lv_bipush (v := nI 6) hx hb dL_law_21 (by decide) ?_
    refine lv_isub hx hb dL_law_23 ?_
    refine lv_icmp_gt (tgt := 189) hx hb dL_law_24 (by decide) (fun q => ?_) (fun q => ?_)
    · refine lv_iconst (v := 1) hx hb dL_law_189 (by decide) ?_
      refine va_forget (fun q hq => hAf _ (hS.2.2 q hq)) ?_
      exact lw_ret hx hb hr hlocks dL_law_190
    · have hiL : i + 6 ≤ L := by
        have h1 := pk_sub_toInt (a := L) (b := 6) (by omega) (by omega)
        have h2 := nI_toInt (n := i) (by omega)
        have h3 : ¬ ((nI L - nI 6).toInt < (nI i).toInt) := fun z => q (Int32.lt_iff_toInt_lt.mpr z)
        omega
      obtain ⟨sw, hsw, esw⟩ := pk_andE (xs i) (m := nI 3) 2 (by decide)
      refine lv_aload_n hx hb dL_law_27 rfl (lv_at hl 0 rfl) ?_
      refine lv_iload_n hx hb dL_law_28 rfl (lv_at hl 3 rfl) ?_
      refine lp_sld hx hb hX hbl hbA hS (by omega) hL dL_law_29 ?_
      refine lv_iconst (v := nI 3) hx hb dL_law_30 (by decide) ?_
      refine lv_iand hx hb dL_law_31 ?_
      refine pr_eqi (y := nI sw) (esw) ?_
      obtain ⟨hn0, hn8, hco, hfl⟩ := id hJ
      rcases (show sw = 0 ∨ sw = 1 ∨ sw = 2 ∨ sw = 3 by omega) with e0 | e0 | e0 | e0
      · subst e0
        refine lv_tableIn (off := 32) (tgt := 64) hx hb dL_law_32 (by decide) (by decide) (by decide) (by decide) ?_
        refine lv_aload_n hx hb dL_law_64 rfl (lv_at hl 1 rfl) ?_
        refine lv_aload_n hx hb dL_law_65 rfl (lv_at hl 0 rfl) ?_
        refine lv_iload_n hx hb dL_law_66 rfl (lv_at hl 3 rfl) ?_
        refine lv_iconst (v := nI 1) hx hb dL_law_67 (by decide) ?_
        refine lv_iadd hx hb dL_law_68 ?_
        refine pr_eqi (y := nI (i + 1)) (nI_add _ _) ?_
        refine lp_sld hx hb hX hbl hbA hS (by omega) hL dL_law_69 ?_
        refine pd_cVv S (met_size l dC dI h ad cs (nI n) rk co u v ro cl wy be dn (xs (i + 1)) H.size) (cwV 1 hts (lw_V q52 q53 q54 q7 q55) rfl rfl rfl (by decide +kernel) ⟨Nat.le_of_ble_eq_true rfl, Nat.le_of_ble_eq_true rfl⟩) hf hA hKd hP hPm hD hS (va_recv hKd hP (ci := 0) (q0 := 0) rfl rfl) rfl hl.1 rfl (Nat.le_of_ble_eq_true rfl) dL_law_70 (fun g H locs hg1 hPc hPo hDc hS => ?_)
        have hP : va_P (dC, dI) vwCl (pdW h ad cs (nI (pd_ni (xs (i + 1)))) 0 g u v ro cl wy be dn) H := hPc
        have hPm : va_P (dC, dI) vwCl (pmW h2 ad2 cs2 (nI n) mk co2 bs gv) H := hPo
        have hD : va_D A (pdW h ad cs (nI (pd_ni (xs (i + 1)))) 0 g u v ro cl wy be dn ++ pmW h2 ad2 cs2 (nI n) mk co2 bs gv) := hDc
        generalize g = g1 at hP hD hg1
        refine lv_aload_n hx hb dL_law_73 rfl (lv_at hl 2 rfl) ?_
        refine lv_aload_n hx hb dL_law_74 rfl (lv_at hl 0 rfl) ?_
        refine lv_iload_n hx hb dL_law_75 rfl (lv_at hl 3 rfl) ?_
        refine lv_iconst (v := nI 1) hx hb dL_law_76 (by decide) ?_
        refine lv_iadd hx hb dL_law_77 ?_
        refine pr_eqi (y := nI (i + 1)) (nI_add _ _) ?_
        refine lp_sld hx hb hX hbl hbA hS (by omega) hL dL_law_78 ?_
        refine pd_cVv S (met_msize l dC dI h2 ad2 cs2 (nI n) mk co2 bs gv (xs (i + 1)) H.size) (cwV 1 hts (lw_V q122 q123 q124 q8 q125) rfl rfl rfl (by decide +kernel) ⟨Nat.le_of_ble_eq_true rfl, Nat.le_of_ble_eq_true rfl⟩) hf hA hKm hPm hP (pd_swap hD) hS (va_recv hKm hPm (ci := 1) (q0 := 0) rfl rfl) rfl hl.1 rfl (Nat.le_of_ble_eq_true rfl) dL_law_79 (fun g H locs hg2 hPc hPo hDc hS => ?_)
        have hPm : va_P (dC, dI) vwCl (pmW h2 ad2 cs2 (nI (pd_ni (xs (i + 1)))) 0 g bs gv) H := hPc
        have hP : va_P (dC, dI) vwCl (pdW h ad cs (nI (pd_ni (xs (i + 1)))) 0 g1 u v ro cl wy be dn) H := hPo
        have hD : va_D A (pdW h ad cs (nI (pd_ni (xs (i + 1)))) 0 g1 u v ro cl wy be dn ++ pmW h2 ad2 cs2 (nI (pd_ni (xs (i + 1)))) 0 g bs gv) := pd_swap hDc
        refine lv_goto (tgt := 183) hx hb dL_law_82 (by decide) ?_
        refine lv_iinc (v := nI (i + 6)) (lv' := [(3, .int (nI (i + 6))), (0, .ref b), (1, .ref h), (2, .ref h2)]) hx hb dL_law_183 hl (k := 3) rfl (nI_add i 6) (by decide) rfl (fun ls hl => ?_)
        refine lv_goto (tgt := 18) hx hb dL_law_186 (by decide) ?_
        exact ih (i + 6) (pd_ni (xs (i + 1))) 0 g1 u v ro cl wy be dn 0 g bs gv H locs ls (by omega) (by omega) (⟨(pd_ni_in _).1, (pd_ni_in _).2, fun r c h3 h4 => by have := (pd_ni_in (xs (i + 1))).2; rw [hg1 _ (by omega), hg2 _ (by omega)], Or.inl ⟨rfl, rfl⟩⟩) hP hPm hD hS (lv_sub hl [1, 2, 3, 0] rfl)
      · subst e0
        refine lv_tableIn (off := 53) (tgt := 85) hx hb dL_law_32 (by decide) (by decide) (by decide) (by decide) ?_
        refine lv_aload_n hx hb dL_law_85 rfl (lv_at hl 1 rfl) ?_
        refine lv_aload_n hx hb dL_law_86 rfl (lv_at hl 0 rfl) ?_
        refine lv_iload_n hx hb dL_law_87 rfl (lv_at hl 3 rfl) ?_
        refine lv_iconst (v := nI 1) hx hb dL_law_88 (by decide) ?_
        refine lv_iadd hx hb dL_law_89 ?_
        refine pr_eqi (y := nI (i + 1)) (nI_add _ _) ?_
        refine lp_sld hx hb hX hbl hbA hS (by omega) hL dL_law_90 ?_
        refine lv_aload_n hx hb dL_law_91 rfl (lv_at hl 0 rfl) ?_
        refine lv_iload_n hx hb dL_law_92 rfl (lv_at hl 3 rfl) ?_
        refine lv_iconst (v := nI 2) hx hb dL_law_93 (by decide) ?_
        refine lv_iadd hx hb dL_law_94 ?_
        refine pr_eqi (y := nI (i + 2)) (nI_add _ _) ?_
        refine lp_sld hx hb hX hbl hbA hS (by omega) hL dL_law_95 ?_
        refine lv_aload_n hx hb dL_law_96 rfl (lv_at hl 0 rfl) ?_
        refine lv_iload_n hx hb dL_law_97 rfl (lv_at hl 3 rfl) ?_
        refine lv_iconst (v := nI 3) hx hb dL_law_98 (by decide) ?_
        refine lv_iadd hx hb dL_law_99 ?_
        refine pr_eqi (y := nI (i + 3)) (nI_add _ _) ?_
        refine lp_sld hx hb hX hbl hbA hS (by omega) hL dL_law_100 ?_
        refine lv_aload_n hx hb dL_law_101 rfl (lv_at hl 0 rfl) ?_
        refine lv_iload_n hx hb dL_law_102 rfl (lv_at hl 3 rfl) ?_
        refine lv_iconst (v := nI 4) hx hb dL_law_103 (by decide) ?_
        refine lv_iadd hx hb dL_law_104 ?_
        refine pr_eqi (y := nI (i + 4)) (nI_add _ _) ?_
        refine lp_sld hx hb hX hbl hbA hS (by omega) hL dL_law_105 ?_
        refine lv_aload_n hx hb dL_law_106 rfl (lv_at hl 0 rfl) ?_
        refine lv_iload_n hx hb dL_law_107 rfl (lv_at hl 3 rfl) ?_
        refine lv_iconst (v := nI 5) hx hb dL_law_108 (by decide) ?_
        refine lv_iadd hx hb dL_law_109 ?_
        refine pr_eqi (y := nI (i + 5)) (nI_add _ _) ?_
        refine lp_sld hx hb hX hbl hbA hS (by omega) hL dL_law_110 ?_
        refine pd_cVv S (met_cost l dC dI h ad cs rk co u v ro cl wy be dn n (xs (i + 1)) (xs (i + 2)) (xs (i + 3)) (xs (i + 4)) (xs (i + 5)) hn0 hn8 H.size) (cwV 5 hts (lw_V q59 q60 q61 q7 q62) rfl rfl rfl (by decide +kernel) ⟨Nat.le_of_ble_eq_true rfl, Nat.le_of_ble_eq_true rfl⟩) hf hA hKd hP hPm hD hS (va_recv hKd hP (ci := 0) (q0 := 0) rfl rfl) rfl hl.1 rfl (Nat.le_of_ble_eq_true rfl) dL_law_111 (fun g H locs _hz1 hPc hPo hDc hS => ?_)
        have hP : va_P (dC, dI) vwCl (pdW h ad cs (nI n) 0 (pd_cs n co (xs (i + 1)) (xs (i + 2)) (xs (i + 3)) (xs (i + 4)) (xs (i + 5))) u v ro cl wy be dn) H := hPc
        have hPm : va_P (dC, dI) vwCl (pmW h2 ad2 cs2 (nI n) mk co2 bs gv) H := hPo
        have hD : va_D A (pdW h ad cs (nI n) 0 (pd_cs n co (xs (i + 1)) (xs (i + 2)) (xs (i + 3)) (xs (i + 4)) (xs (i + 5))) u v ro cl wy be dn ++ pmW h2 ad2 cs2 (nI n) mk co2 bs gv) := hDc
        refine lv_aload_n hx hb dL_law_114 rfl (lv_at hl 2 rfl) ?_
        refine lv_aload_n hx hb dL_law_115 rfl (lv_at hl 0 rfl) ?_
        refine lv_iload_n hx hb dL_law_116 rfl (lv_at hl 3 rfl) ?_
        refine lv_iconst (v := nI 1) hx hb dL_law_117 (by decide) ?_
        refine lv_iadd hx hb dL_law_118 ?_
        refine pr_eqi (y := nI (i + 1)) (nI_add _ _) ?_
        refine lp_sld hx hb hX hbl hbA hS (by omega) hL dL_law_119 ?_
        refine lv_aload_n hx hb dL_law_120 rfl (lv_at hl 0 rfl) ?_
        refine lv_iload_n hx hb dL_law_121 rfl (lv_at hl 3 rfl) ?_
        refine lv_iconst (v := nI 2) hx hb dL_law_122 (by decide) ?_
        refine lv_iadd hx hb dL_law_123 ?_
        refine pr_eqi (y := nI (i + 2)) (nI_add _ _) ?_
        refine lp_sld hx hb hX hbl hbA hS (by omega) hL dL_law_124 ?_
        refine lv_aload_n hx hb dL_law_125 rfl (lv_at hl 0 rfl) ?_
        refine lv_iload_n hx hb dL_law_126 rfl (lv_at hl 3 rfl) ?_
        refine lv_iconst (v := nI 3) hx hb dL_law_127 (by decide) ?_
        refine lv_iadd hx hb dL_law_128 ?_
        refine pr_eqi (y := nI (i + 3)) (nI_add _ _) ?_
        refine lp_sld hx hb hX hbl hbA hS (by omega) hL dL_law_129 ?_
        refine lv_aload_n hx hb dL_law_130 rfl (lv_at hl 0 rfl) ?_
        refine lv_iload_n hx hb dL_law_131 rfl (lv_at hl 3 rfl) ?_
        refine lv_iconst (v := nI 4) hx hb dL_law_132 (by decide) ?_
        refine lv_iadd hx hb dL_law_133 ?_
        refine pr_eqi (y := nI (i + 4)) (nI_add _ _) ?_
        refine lp_sld hx hb hX hbl hbA hS (by omega) hL dL_law_134 ?_
        refine lv_aload_n hx hb dL_law_135 rfl (lv_at hl 0 rfl) ?_
        refine lv_iload_n hx hb dL_law_136 rfl (lv_at hl 3 rfl) ?_
        refine lv_iconst (v := nI 5) hx hb dL_law_137 (by decide) ?_
        refine lv_iadd hx hb dL_law_138 ?_
        refine pr_eqi (y := nI (i + 5)) (nI_add _ _) ?_
        refine lp_sld hx hb hX hbl hbA hS (by omega) hL dL_law_139 ?_
        refine pd_cVv S (met_mcost l dC dI h2 ad2 cs2 mk co2 bs gv n (xs (i + 1)) (xs (i + 2)) (xs (i + 3)) (xs (i + 4)) (xs (i + 5)) hn0 hn8 H.size) (cwV 5 hts (lw_V q126 q127 q128 q8 q129) rfl rfl rfl (by decide +kernel) ⟨Nat.le_of_ble_eq_true rfl, Nat.le_of_ble_eq_true rfl⟩) hf hA hKm hPm hP (pd_swap hD) hS (va_recv hKm hPm (ci := 1) (q0 := 0) rfl rfl) rfl hl.1 rfl (Nat.le_of_ble_eq_true rfl) dL_law_140 (fun g H locs _hz2 hPc hPo hDc hS => ?_)
        have hPm : va_P (dC, dI) vwCl (pmW h2 ad2 cs2 (nI n) 0 (pm_cs n co2 (xs (i + 1)) (xs (i + 2)) (xs (i + 3)) (xs (i + 4)) (xs (i + 5))) bs gv) H := hPc
        have hP : va_P (dC, dI) vwCl (pdW h ad cs (nI n) 0 (pd_cs n co (xs (i + 1)) (xs (i + 2)) (xs (i + 3)) (xs (i + 4)) (xs (i + 5))) u v ro cl wy be dn) H := hPo
        have hD : va_D A (pdW h ad cs (nI n) 0 (pd_cs n co (xs (i + 1)) (xs (i + 2)) (xs (i + 3)) (xs (i + 4)) (xs (i + 5))) u v ro cl wy be dn ++ pmW h2 ad2 cs2 (nI n) 0 (pm_cs n co2 (xs (i + 1)) (xs (i + 2)) (xs (i + 3)) (xs (i + 4)) (xs (i + 5))) bs gv) := pd_swap hDc
        refine lv_goto (tgt := 183) hx hb dL_law_143 (by decide) ?_
        refine lv_iinc (v := nI (i + 6)) (lv' := [(3, .int (nI (i + 6))), (0, .ref b), (1, .ref h), (2, .ref h2)]) hx hb dL_law_183 hl (k := 3) rfl (nI_add i 6) (by decide) rfl (fun ls hl => ?_)
        refine lv_goto (tgt := 18) hx hb dL_law_186 (by decide) ?_
        exact ih (i + 6) n 0 (pd_cs n co (xs (i + 1)) (xs (i + 2)) (xs (i + 3)) (xs (i + 4)) (xs (i + 5))) u v ro cl wy be dn 0 (pm_cs n co2 (xs (i + 1)) (xs (i + 2)) (xs (i + 3)) (xs (i + 4)) (xs (i + 5))) bs gv H locs ls (by omega) (by omega) (⟨hn0, hn8, lp_cost _ _ _ _ _ hn8 hco, Or.inl ⟨rfl, rfl⟩⟩) hP hPm hD hS (lv_sub hl [1, 2, 3, 0] rfl)
      · subst e0
        refine lv_tableIn (off := 114) (tgt := 146) hx hb dL_law_32 (by decide) (by decide) (by decide) (by decide) ?_
        refine lv_aload_n hx hb dL_law_146 rfl (lv_at hl 1 rfl) ?_
        refine pd_cVl S (met_least l dC dI h ad cs rk co u v ro cl wy be dn n hn8 hn0 H.size) (cwV 0 hts (lw_V q68 q69 q70 q7 q71) rfl rfl rfl (by decide +kernel) ⟨Nat.le_of_ble_eq_true rfl, Nat.le_of_ble_eq_true rfl⟩) hf hA hKd hP hPm hD hS (va_recv hKd hP (ci := 0) (q0 := 0) rfl rfl) rfl hl.1 rfl (Nat.le_of_ble_eq_true rfl) dL_law_147 (fun r g H locs hw1 hPc hPo hDc hS => ?_)
        obtain ⟨u1, v1, ro1, cl1, wy1, be1, dn1⟩ := g
        have hP : va_P (dC, dI) vwCl (pdW h ad cs (nI n) 1 co u1 v1 ro1 cl1 wy1 be1 dn1) H := hPc
        have hPm : va_P (dC, dI) vwCl (pmW h2 ad2 cs2 (nI n) mk co2 bs gv) H := hPo
        have hD : va_D A (pdW h ad cs (nI n) 1 co u1 v1 ro1 cl1 wy1 be1 dn1 ++ pmW h2 ad2 cs2 (nI n) mk co2 bs gv) := hDc
        obtain ⟨f, hf1, hf2, hf3⟩ : ∃ f, pd_lex (pd_C co) n f ∧ (∀ i, i < n → cl1 i = nI (f i)) ∧ r.toInt = pd_cost (pd_C co) n f := hw1
        refine lv_topl (fun r1 er1 => ?_)
        rw [← er1] at hf3
        refine lv_aload_n hx hb dL_law_150 rfl (lv_at hl 2 rfl) ?_
        refine pd_cVl S (met_mleast l dC dI h2 ad2 cs2 mk co2 bs gv n hn8 H.size) (cwV 0 hts (lw_V q131 q132 q133 q8 q134) rfl rfl rfl (by decide +kernel) ⟨Nat.le_of_ble_eq_true rfl, Nat.le_of_ble_eq_true rfl⟩) hf hA hKm hPm hP (pd_swap hD) hS (va_recv hKm hPm (ci := 1) (q0 := 0) rfl rfl) rfl hl.1 rfl (Nat.le_of_ble_eq_true rfl) dL_law_151 (fun r g H locs hw2 hPc hPo hDc hS => ?_)
        obtain ⟨bs1, gv1⟩ := g
        have hPm : va_P (dC, dI) vwCl (pmW h2 ad2 cs2 (nI n) 1 co2 bs1 gv1) H := hPc
        have hP : va_P (dC, dI) vwCl (pdW h ad cs (nI n) 1 co u1 v1 ro1 cl1 wy1 be1 dn1) H := hPo
        have hD : va_D A (pdW h ad cs (nI n) 1 co u1 v1 ro1 cl1 wy1 be1 dn1 ++ pmW h2 ad2 cs2 (nI n) 1 co2 bs1 gv1) := pd_swap hDc
        obtain ⟨g, hg1, hg2, hg3⟩ : ∃ f, pd_lex (pd_C co2) n f ∧ (∀ r, r < n → gv1 r = nI (f r)) ∧ r.toInt = pd_cost (pd_C co2) n f := hw2
        obtain ⟨hrr, hfg⟩ := lp_least hco hf1 hg1 hf3 hg3
        refine W.lcmp hx hb dL_law_154 ?_
        refine lv_if_eq (tgt := 183) hx hb dL_law_155 (by decide) (fun q2 => ?_) (fun q2 => ?_)
        · refine lv_iinc (v := nI (i + 6)) (lv' := [(3, .int (nI (i + 6))), (0, .ref b), (1, .ref h), (2, .ref h2)]) hx hb dL_law_183 hl (k := 3) rfl (nI_add i 6) (by decide) rfl (fun ls hl => ?_)
          refine lv_goto (tgt := 18) hx hb dL_law_186 (by decide) ?_
          exact ih (i + 6) n 1 co u1 v1 ro1 cl1 wy1 be1 dn1 1 co2 bs1 gv1 H locs ls (by omega) (by omega) (⟨hn0, hn8, hco, Or.inr ⟨rfl, rfl, fun x hx1 => by rw [hf2 x hx1, hg2 x hx1, hfg x hx1]⟩⟩) hP hPm hD hS (lv_sub hl [1, 2, 3, 0] rfl)
        · exact absurd ((lg_cmp_eq _ _).mpr hrr) q2
      · subst e0
        refine lv_tableIn (off := 128) (tgt := 160) hx hb dL_law_32 (by decide) (by decide) (by decide) (by decide) ?_
        refine lv_aload_n hx hb dL_law_160 rfl (lv_at hl 1 rfl) ?_
        refine lv_aload_n hx hb dL_law_161 rfl (lv_at hl 0 rfl) ?_
        refine lv_iload_n hx hb dL_law_162 rfl (lv_at hl 3 rfl) ?_
        refine lv_iconst (v := nI 1) hx hb dL_law_163 (by decide) ?_
        refine lv_iadd hx hb dL_law_164 ?_
        refine pr_eqi (y := nI (i + 1)) (nI_add _ _) ?_
        refine lp_sld hx hb hX hbl hbA hS (by omega) hL dL_law_165 ?_
        refine pd_cVi S (met_given l dC dI h ad cs rk co u v ro cl wy be dn n (xs (i + 1)) hn0 hn8 H.size) (cwV 1 hts (lw_V q95 q96 q97 q7 q98) rfl rfl rfl (by decide +kernel) ⟨Nat.le_of_ble_eq_true rfl, Nat.le_of_ble_eq_true rfl⟩) hf hA hKd hP hPm hD hS (va_recv hKd hP (ci := 0) (q0 := 0) rfl rfl) rfl hl.1 rfl (Nat.le_of_ble_eq_true rfl) dL_law_166 (fun r g H locs hw1 hPc hPo hDc hS => ?_)
        have hP : va_P (dC, dI) vwCl (pdW h ad cs (nI n) rk co u v ro cl wy be dn) H := hPc
        have hPm : va_P (dC, dI) vwCl (pmW h2 ad2 cs2 (nI n) mk co2 bs gv) H := hPo
        have hD : va_D A (pdW h ad cs (nI n) rk co u v ro cl wy be dn ++ pmW h2 ad2 cs2 (nI n) mk co2 bs gv) := hDc
        refine lv_topi (fun r1 er1 => ?_)
        rw [← er1] at hw1
        refine lv_aload_n hx hb dL_law_169 rfl (lv_at hl 2 rfl) ?_
        refine lv_aload_n hx hb dL_law_170 rfl (lv_at hl 0 rfl) ?_
        refine lv_iload_n hx hb dL_law_171 rfl (lv_at hl 3 rfl) ?_
        refine lv_iconst (v := nI 1) hx hb dL_law_172 (by decide) ?_
        refine lv_iadd hx hb dL_law_173 ?_
        refine pr_eqi (y := nI (i + 1)) (nI_add _ _) ?_
        refine lp_sld hx hb hX hbl hbA hS (by omega) hL dL_law_174 ?_
        refine pd_cVi S (met_mgiven l dC dI h2 ad2 cs2 mk co2 bs gv n (xs (i + 1)) hn0 hn8 H.size) (cwV 1 hts (lw_V q142 q143 q144 q8 q145) rfl rfl rfl (by decide +kernel) ⟨Nat.le_of_ble_eq_true rfl, Nat.le_of_ble_eq_true rfl⟩) hf hA hKm hPm hP (pd_swap hD) hS (va_recv hKm hPm (ci := 1) (q0 := 0) rfl rfl) rfl hl.1 rfl (Nat.le_of_ble_eq_true rfl) dL_law_175 (fun r g H locs hw2 hPc hPo hDc hS => ?_)
        have hPm : va_P (dC, dI) vwCl (pmW h2 ad2 cs2 (nI n) mk co2 bs gv) H := hPc
        have hP : va_P (dC, dI) vwCl (pdW h ad cs (nI n) rk co u v ro cl wy be dn) H := hPo
        have hD : va_D A (pdW h ad cs (nI n) rk co u v ro cl wy be dn ++ pmW h2 ad2 cs2 (nI n) mk co2 bs gv) := pd_swap hDc
        refine lv_icmp_eq (tgt := 183) hx hb dL_law_178 (by decide) (fun q2 => ?_) (fun q2 => ?_)
        · refine lv_iinc (v := nI (i + 6)) (lv' := [(3, .int (nI (i + 6))), (0, .ref b), (1, .ref h), (2, .ref h2)]) hx hb dL_law_183 hl (k := 3) rfl (nI_add i 6) (by decide) rfl (fun ls hl => ?_)
          refine lv_goto (tgt := 18) hx hb dL_law_186 (by decide) ?_
          exact ih (i + 6) n rk co u v ro cl wy be dn mk co2 bs gv H locs ls (by omega) (by omega) (hJ) hP hPm hD hS (lv_sub hl [1, 2, 3, 0] rfl)
        · exact absurd (by rw [hw1, hw2]; exact lp_given hJ _) q2
end
section
/-! the law, whole -/
set_option maxRecDepth 100000
set_option maxHeartbeats 4000000 in
set_option maxRecDepth 100000 in
theorem whole_start {p : Program} {e : Env} {s : State} {m : MethodId} {below : List Frame} {meth : Method} {c : Code} (l : Launch) {b L : Nat} {xs : Nat → Int32} (hL : L ≤ 384) (C0 : lw_At p s m meth c b L xs) : W p l e room_1 s m #[Value.ref b] below meth c s.heap [] 0 0 (lw_Z below #[Value.ref b] s) (entryFrame m ([Value.ref b] : List Value).toArray 4) := by
  obtain ⟨hx, hb, hr, hml, hown, hts0, hX, hbl, hlocks, hgv⟩ := id C0
  have hts : ∀ w ∈ lw_all, w.before #[Value.ref b] s = true := fun w hw => hts0 w (lw_all_tbl hw)
  obtain ⟨A, hAe⟩ : ∃ A : Nat → Prop, A = fun q : Nat => s.heap.size ≤ q := ⟨_, rfl⟩
  have hA : ∀ q : Nat, s.heap.size ≤ q → A q := fun q h => by rw [hAe]; exact h
  have hAf : ∀ q : Nat, A q → s.heap.size ≤ q := fun q h => by rw [hAe] at h; exact h
  have hbA : ¬ A b := fun z => by
    have := hAf b z
    omega
  obtain ⟨c0_, iS0, hKn0⟩ := u_known (C := RX0) (T := TX0) (N := 10) (n := 10) hts0 (fun w h => lw_all_tbl (in_X0 w h)) (hts _ q11)
  obtain ⟨c1_, iS1, hKn1⟩ := u_known (C := RX1) (T := TX1) (N := 5) (n := 5) hts0 (fun w h => lw_all_tbl (in_X1 w h)) (hts _ q101)
  obtain ⟨dC, dI, hKc⟩ : ∃ (dC : Nat → ClassId) (dI : Nat → Nat → Nat), ∀ (k : Nat) (q : vw_C), vwCl[k]? = some q → u_Kn s q.1 q.2.1 q.2.2 (dC k) (dI k) := by
    refine ⟨fun k => if k = 0 then c0_ else c1_, fun k => if k = 0 then iS0 else iS1, ?_⟩
    intro k q hq
    match k, hq with
    | 0, hq => cases hq; exact hKn0
    | 1, hq => cases hq; exact hKn1
    | k + 2, hq => simp [vwCl] at hq
  have hS : va_S A s.heap s.heap [] := va_S.rf
  have hK : va_K (dC, dI) vwCl [] s := ⟨hKc, fun k q h => by simp at h⟩
  have hP : va_P (dC, dI) vwCl [] s.heap := fun k q h => by simp at h
  have hD : va_D A [] := ⟨fun i j p q h => by simp at h, fun k q h => by simp at h⟩
  have hl := lv_entry ([.ref b]) (n := 4) (Nat.le_of_ble_eq_true rfl)
  rw [lg_entry_eq]
  generalize (lg_sl ([.ref b]) ++ List.replicate (4 - (lg_sl ([.ref b])).length) Slot.unset).toArray = ls at hl ⊢
  have hl : lv_has ls 4 [(0, .ref b)] := hl
  refine va_new (ci := 0) (fs := [.null, .int 0, .int 0, .null, .null, .null, .null, .null, .null, .null]) (C := RX0) (T := TX0) (N := 10) hx hb hts in_X0 tyX0 tyX0_ok hown (hts _ q10) (hts _ q11) (hts _ q7) hK hP hD hS hA rfl (fun j hj => by rcases (show j = 0 ∨ j = 1 ∨ j = 2 ∨ j = 3 ∨ j = 4 ∨ j = 5 ∨ j = 6 ∨ j = 7 ∨ j = 8 ∨ j = 9 by omega) with rfl | rfl | rfl | rfl | rfl | rfl | rfl | rfl | rfl | rfl <;> rfl) (Nat.le_of_ble_eq_true rfl) (Nat.le_of_ble_eq_true rfl) dL_law_0 (fun h H hP hD hS => ?_)
  have hP : va_P (dC, dI) vwCl [(h, .inr (0, [.null, .int 0, .int 0, .null, .null, .null, .null, .null, .null, .null]))] H := hP
  have hD : va_D A [(h, .inr (0, [.null, .int 0, .int 0, .null, .null, .null, .null, .null, .null, .null]))] := hD
  refine W.widen (k := 1) (n := 10) (Nat.le_refl _) (Nat.le_refl _) ?_
  refine lv_dup hx hb dL_law_3 rfl ?_
  have hFc := va_free (wc := [(h, .inr (0, [.null, .int 0, .int 0, .null, .null, .null, .null, .null, .null, .null]))]) hD hS hA [0] rfl
  refine va_callv (va_runI (As := []) (rest := [.ref h]) ⟨hx, hb, hml, hown, hts⟩ (met_init l dC dI h H.size) (cwI 0 hts (lw_meth q14) rfl rfl rfl (hts _ q7) (hts _ q12) (hts _ q13) rfl (by decide +kernel) ⟨Nat.le_of_ble_eq_true rfl, Nat.le_of_ble_eq_true rfl⟩) ⟨pd_blind, fun U hU hW => ⟨rfl, by rw [hU], by rw [hU]; exact hP, va_K.moved hW.alike hK, hD.weaken (fun _ _ _ _ => trivial)⟩⟩ rfl rfl hl.1 rfl (lv_room (Nat.le_of_ble_eq_true rfl)) dL_law_4 ⟨Nat.le_of_ble_eq_true rfl, Nat.le_of_ble_eq_true rfl⟩) hS (fun q _ h => hFc q h) hFc (fun g t H1 locs ht hvm _ hB hz1 hk1 hS => ?_)
  obtain ⟨ad, cs⟩ := g
  obtain ⟨hP1, hK1, hD1⟩ := hB
  rw [ht] at hP1
  have hKd : va_K (dC, dI) vwCl (pdT cs) s := va_K.moved hvm.symm hK1
  obtain ⟨-, hD⟩ := pd_frame (D := (dC, dI)) (cl := vwCl) (wr := []) pd_nil (pd_an hD) hFc hk1 hD1
  have hD : va_D A (pdW h ad cs (nI 1) 0 (fun _ => 0) (fun _ => 0) (fun _ => 0) (fun _ => 0) (fun _ => 0) (fun _ => 0) (fun _ => 0) (fun _ => 0)) := pd_na hD
  have hP : va_P (dC, dI) vwCl (pdW h ad cs (nI 1) 0 (fun _ => 0) (fun _ => 0) (fun _ => 0) (fun _ => 0) (fun _ => 0) (fun _ => 0) (fun _ => 0) (fun _ => 0)) H1 := hP1
  refine lv_astore_n (lv' := [(1, .ref h), (0, .ref b)]) hx hb dL_law_7 rfl hl (by decide) rfl (fun ls hl => ?_)
  refine W.widen (k := 9) (n := 133) (Nat.le_refl _) (Nat.le_refl _) ?_
  refine va_new (ci := 1) (fs := [.null, .int 0, .null, .null, .int 0]) (C := RX1) (T := TX1) (N := 5) hx hb hts in_X1 tyX1 tyX1_ok hown (hts _ q100) (hts _ q101) (hts _ q8) hK hP hD hS hA rfl (fun j hj => by rcases (show j = 0 ∨ j = 1 ∨ j = 2 ∨ j = 3 ∨ j = 4 by omega) with rfl | rfl | rfl | rfl | rfl <;> rfl) (Nat.le_of_ble_eq_true rfl) (Nat.le_of_ble_eq_true rfl) dL_law_8 (fun h2 H hP hD hS => ?_)
  have hPm : va_P (dC, dI) vwCl [(h2, .inr (1, [.null, .int 0, .null, .null, .int 0]))] H := fun k q hq => hP (9 + k) q (by rw [List.getElem?_append_right (by show 9 ≤ 9 + k; omega)]; show _ = some q; rw [← hq]; congr 1; show 9 + k - 9 = k; omega)
  have hPd : va_P (dC, dI) vwCl (pdW h ad cs (nI 1) 0 (fun _ => 0) (fun _ => 0) (fun _ => 0) (fun _ => 0) (fun _ => 0) (fun _ => 0) (fun _ => 0) (fun _ => 0)) H := fun k q hq => hP k q (by rw [List.getElem?_append_left (List.getElem?_eq_some_iff.mp hq).1]; exact hq)
  refine W.widen (k := 10) (n := 138) (Nat.le_refl _) (Nat.le_refl _) ?_
  refine lv_dup hx hb dL_law_11 rfl ?_
  have hD := pd_swap hD
  have hFc : ∀ q, va_A [(h2, .inr (1, [.null, .int 0, .null, .null, .int 0]))] H.size q → A q := by
    rintro q (⟨k, e2, hk⟩ | hq)
    · exact (pd_left hD).2 k _ hk
    · exact hA q (Nat.le_trans hS.1 hq)
  refine va_callv (va_runI (As := []) (rest := [.ref h2]) ⟨hx, hb, hml, hown, hts⟩ (met_minit l dC dI h2 H.size) (cwI 0 hts (lw_meth q104) rfl rfl rfl (hts _ q8) (hts _ q102) (hts _ q103) rfl (by decide +kernel) ⟨Nat.le_of_ble_eq_true rfl, Nat.le_of_ble_eq_true rfl⟩) ⟨pd_blind, fun U hU hW => ⟨rfl, by rw [hU], by rw [hU]; exact hPm, va_K.moved hW.alike hK, (pd_left hD).weaken (fun _ _ _ _ => trivial)⟩⟩ rfl rfl hl.1 rfl (lv_room (Nat.le_of_ble_eq_true rfl)) dL_law_12 ⟨Nat.le_of_ble_eq_true rfl, Nat.le_of_ble_eq_true rfl⟩) hS (fun q _ h => hFc q h) hFc (fun g t H1 locs ht hvm _ hB hz1 hk1 hS => ?_)
  obtain ⟨ad2, cs2⟩ := g
  obtain ⟨hP1, hK1, hD1⟩ := hB
  rw [ht] at hP1
  have hKm : va_K (dC, dI) vwCl (pmT cs2) s := va_K.moved hvm.symm hK1
  obtain ⟨hPd, hD⟩ := pd_frame hPd hD hFc hk1 hD1
  have hD := pd_swap hD
  refine lv_astore_n (lv' := [(2, .ref h2), (1, .ref h), (0, .ref b)]) hx hb dL_law_15 rfl hl (by decide) rfl (fun ls hl => ?_)
  refine lv_iconst (v := nI 0) hx hb dL_law_16 (by decide) ?_
  refine lv_istore_n (lv' := [(3, .int (nI 0)), (2, .ref h2), (1, .ref h), (0, .ref b)]) hx hb dL_law_17 rfl hl (by decide) rfl (fun ls hl => ?_)
  refine W.widen (k := 600000) (n := 7302250) (Nat.le_of_ble_eq_true rfl) (Nat.le_of_ble_eq_true rfl) ?_
  exact law_loop hL C0 hA hbA hAf hKd hKm (L + 1) 0 1 0 (fun _ => 0) (fun _ => 0) (fun _ => 0) (fun _ => 0) (fun _ => 0) (fun _ => 0) (fun _ => 0) (fun _ => 0) 0 (fun _ => 0) (fun _ => 0) (fun _ => 0) H1 locs ls (by omega) (by omega) ⟨by omega, by omega, fun _ _ _ _ => rfl, Or.inl ⟨rfl, rfl⟩⟩ hPd hP1 hD hS (lv_sub hl [3, 2, 1, 0] rfl)
set_option maxHeartbeats 4000000 in
theorem lw_walk (l : Launch) (b : Addr) (xs : List Int32) : MetFree l x (headSpec (Jvm.Cond.code x code maxLocals ret :: tables_1) room_1) (lw_P b xs) (fun _ _ _ _ _ => True) lw_Q := by
  refine MetFree.of_bodyS (code := code) (maxLocals := maxLocals) (ret := ret) (by decide) ?_ ?_
  · intro args s m h hn
    obtain ⟨meth, c, h1, h2, h3, h4, h5, h6, -, -⟩ := Cond.code_spec hn (atoms_spec (ws := Jvm.Cond.code x code maxLocals ret :: tables_1) h _ List.mem_cons_self)
    exact ⟨meth, c, h1, h2, h3, h4, h5, h6⟩
  · intro p e s m args below meth c s₁ B hml0 hP _
    obtain ⟨rfl, hx, hbd, hgv⟩ := hP
    obtain ⟨scr, harrAt, hlist, hof, hsmall⟩ := hx
    obtain ⟨hcb, hkn, -, -⟩ := State.arrayAt?_spec harrAt
    have hown : s.vm.findClass R_law = some m.cls := findClass_of_methodNamed B.named
    have hts0 : ∀ c ∈ (Jvm.Cond.code x code maxLocals ret :: tables_1), c.before #[Value.ref b] s = true := atoms_spec (ws := Jvm.Cond.code x code maxLocals ret :: tables_1) B.pre
    have hts : ∀ w ∈ lw_tbl, w.before #[Value.ref b] s = true := k2_hts_sels lw_privs (fun w hw => hts0 w (List.mem_cons_of_mem _ hw)) lw_privs_ok
    have hml : c.maxLocals = 4 := B.maxLocals_eq (hts0 _ List.mem_cons_self)
    have X₀ : Stand p l e room_1 s m #[Value.ref b] below meth c s₁ [] 0 0 := Stand.of_body B
    have hh0 : s₁.heap = s.heap := by rw [B.state]; rfl
    have hsz : scr.slots.size = xs.length := by rw [← Array.length_toList, hlist, List.length_map]
    have hval : ∀ j : Nat, j < xs.length → scr.slots[j]? = some (.int (xs.getD j 0)) := fun j hj => by
      rw [← Array.getElem?_toList, hlist]
      simp [hj]
    have hbl : b < s.heap.size := (Array.getElem?_eq_some_iff.mp hcb).1
    have hX : va_X b xs.length (fun j => xs.getD j 0) s s.heap := ⟨scr, hcb, hof, hkn, hsz, hval⟩
    have K : W p l e room_1 s m #[Value.ref b] below meth c s₁.heap [] 0 0 (lw_Z below #[Value.ref b] s) (entryFrame m ([Value.ref b] : List Value).toArray 4) := by
      rw [hh0]
      exact whole_start l hbd ⟨B.exec, B.bytes, B.returns, hml, hown, hts, hX, hbl, B.notSynchronized, hgv⟩
    obtain ⟨t, a1, o, b1, b2, b3⟩ := K s₁ rfl X₀
    exact ⟨t, o, a1, b1, b2, b3⟩
theorem lw_pre_spec {args : Array Value} {s : State} (h : (Jvm.Cond.and given_1 narrow_1).before args s = true) (hr : rest_1_c.before args s = true) : ∃ (b : Addr) (xs : List Int32), lw_P b xs args s := by
  have hs := flat_of_before _ h
  have hq := flat_of_before _ hr
  have hc : (Cond.count 1).before args s = true := hs _ (by decide +kernel)
  have harr : (Cond.arrayOf (.arg 0) .int).before args s = true := hs _ (by decide +kernel)
  have hle : (Cond.le (.length (.arg 0)) (.int 384)).before args s = true := hs _ (by decide +kernel)
  have hlen : (Cond.isInt (.length (.arg 0))).before args s = true := hq _ (by decide +kernel)
  have hall : (Cond.all (.arg 0) (.isInt (.elem (.arg 0) (.index 0)))).before args s = true := hq _ (by decide +kernel)
  obtain ⟨b, xs, hb, hx⟩ := State.ints_of_pre rfl harr hlen hall
  have hsm : xs.length < 2 ^ 31 := hx.choose_spec.2.2.2
  have hev : (Term.length (.arg 0)).eval args s none [] s = some (.int xs.length.toInt32) := hx.length_eval hb
  have hv := Cond.le_ints hev (show (Term.int 384).eval args s none [] s = some (.int 384) from rfl)
  have hd : xs.length.toInt32 ≤ 384 := by
    simpa [Cond.before, Cond.holds, hv] using hle
  have hN : xs.length ≤ 384 := (Int32.ofNat_le_ofNat hsm (by decide)).mp (show Int32.ofNat xs.length ≤ Int32.ofNat 384 from hd)
  exact ⟨b, xs, Cond.one_arg hc (show args[0]? = some (.ref b) from hb), hx, hN, h⟩
theorem lw_comes (l : Launch) : Comes l x (Jvm.Cond.code x code maxLocals ret :: tables_1) room_1 (fun tb e args s => Calls_1 tb e args s ∧ rest_1 tb e args s ∧ Pre_1 tb e args s)
    (fun _ _ args s o t => lw_Q args s o t) := by
  intro p e ha hc hk s m args below hf hfit hheap happ hpre
  obtain ⟨b, xs, hP⟩ := lw_pre_spec hpre.2.2 hpre.2.1
  obtain ⟨k, o, h1, h2, h3, hQ⟩ := lw_walk l b xs p e ha hc hk s m args below hf ((Spec.applies_iff_loose hf).mp happ).1 hP trivial
  exact ⟨k, o, h1, h2, h3, hQ⟩
theorem lw_frame {s t : State} {o : Outcome} {args : Array Value} (h : Framed s o t [] 600000 7302250) :
    Framed s o t (fieldLocs frame_1_writes args s ++ arrayLocs frame_1_arrays args s ++ staticLocs frame_1_statics s) 600000 7302250 := h
theorem lw_limb (L : Cond) (hL : ∀ (args : Array Value) (s t : State), L.after args s (.returned (some (.int 1))) t = true) :
    ArmFor flags0 classFile x code maxLocals ret World_1 tables_1 room_1 Calls_1 rest_1 Pre_1
      (fun tb e a s o t => postC L tb e a s o t ∧ Framed s o t (fieldLocs frame_1_writes a s ++ arrayLocs frame_1_arrays a s ++ staticLocs frame_1_statics s) 600000 7302250) := by
  intro l _ _ _ p e ha hc hk s m args below hf hfit hheap happ hpre
  obtain ⟨k, o, h1, h2, h3, rfl, hF⟩ := lw_comes l p e ha hc hk s m args below hf hfit hheap happ hpre
  exact ⟨k, _, h1, h2, h3, hL args s _, lw_frame hF⟩
theorem i_vc : Claimed_1_1 ∧ Claimed_1_2 := ⟨lw_limb limb_1_1 (fun args s t => by simp [limb_1_1, Cond.after, Cond.holds, Cond.value]), lw_limb limb_1_2 (fun args s t => Cond.after_iff.mpr (by
  first | (rw [show limb_1_2 = Cond.eq .result (.int 1) from rfl, Cond.eq_ints (x := 1) (y := 1) rfl rfl]; simp; done) | (simp [limb_1_2, Cond.value, Term.eval]; done)))⟩
end
